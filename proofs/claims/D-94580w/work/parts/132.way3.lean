/-! LAYER 2: the way: the tables -/
theorem R_yy {a v w n m nn nl nw : Nat} {S : sT} {P : pT} {Y I Z : zT} {Y' : zT} (hy : ∀ g, g < 200 ∨ g = 217 → Y' g = Y g) (h : Rel a v w S P Y I n Z m nn nl nw) : Rel a v w S P Y' I n Z m nn nl nw := by
  obtain ⟨h1, h2, h3, h4, h5, h6, h7, h8⟩ := h
  refine ⟨h1, h2, ?_, VN_y (fun g hg => hy g (by omega)) h4, h5, h6, h7, ?_⟩
  · unfold XN at h3 ⊢
    rw [hy 34 (by omega), hy 41 (by omega), hy 42 (by omega), hy 61 (by omega), hy 33 (by omega), hy 217 (by omega)]
    exact h3
  · rcases h8 with h8 | ⟨h8, m', nn', nl', nw', k1, k2⟩
    · exact Or.inl h8
    · exact Or.inr ⟨h8, m', nn', nl', nw', VN_y (fun g hg => hy (g + 100) (by omega)) k1, k2⟩
theorem R_zz {a v w n m nn nl nw : Nat} {S : sT} {P : pT} {Y I Z : zT} {Z' : zT} (hz : ∀ g, sc g = false → Z' g = Z g) (h : Rel a v w S P Y I n Z m nn nl nw) : Rel a v w S P Y I n Z' m nn nl nw := by
  obtain ⟨h1, h2, h3, h4, h5, h6, h7, h8⟩ := h
  refine ⟨h1, h2, ?_, ?_, ?_, ?_, ?_, ?_⟩
  · unfold XN at h3 ⊢
    rw [hz 34 rfl, hz 41 rfl, hz 42 rfl, hz 61 rfl, hz 33 rfl, hz 32 rfl]
    exact h3
  · unfold VN at h4 ⊢
    rw [hz 2 rfl, hz 18 rfl, hz 22 rfl, hz 55 rfl, hz 53 rfl, hz 28 rfl, hz 30 rfl, hz 31 rfl]
    refine ⟨h4.1, h4.2.1, fun g j hj => ?_, h4.2.2.2⟩
    rw [h4.2.2.1 g j hj]
    cases hs : sc g
    · rw [hz g hs]
    · rw [sc_lim hs] at hj
      exact absurd hj (Nat.not_lt_zero _)
  · intro g j hg
    cases hs : sc g
    · rw [hz g hs]; exact h5 g j hg
    · exact absurd (sc_hib hs) hg
  · unfold MC at h6 ⊢
    rw [hz 28 rfl, hz 29 rfl, hz 30 rfl, hz 31 rfl, hz 7 rfl, hz 5 rfl, hz 6 rfl, hz 21 rfl, hz 44 rfl, hz 45 rfl, hz 3 rfl, hz 23 rfl]
    exact h6
  · unfold PLr at h7 ⊢
    rw [hz 44 rfl, hz 43 rfl]
    exact h7
  · unfold KR at h8 ⊢
    rw [unimg_z (hz 63 rfl), hz 61 rfl]
    exact h8
/-- the first k places of a row of 27 -/
def rowf (F : Nat) (Y : zT) (i k : Nat) (g : Nat → Nat) : zT := fun f j => if f = F ∧ 27 * i ≤ j ∧ j < 27 * i + k then nI (g (j - 27 * i)) else Y f j
theorem rowf_o {F i k f : Nat} {Y : zT} {g : Nat → Nat} (h : f ≠ F) : rowf F Y i k g f = Y f := by
  funext j
  exact if_neg (fun c => h c.1)
theorem rowf_0 {F i : Nat} {Y : zT} {g : Nat → Nat} : rowf F Y i 0 g = Y := by
  funext f j
  exact if_neg (fun c => by omega)
theorem rowf_s {F i k : Nat} {Y : zT} {g : Nat → Nat} : zset (rowf F Y i k g) F (27 * i + k) (nI (g k)) = rowf F Y i (k + 1) g := by
  funext f j
  show (if f = F ∧ j = 27 * i + k then nI (g k) else if f = F ∧ 27 * i ≤ j ∧ j < 27 * i + k then nI (g (j - 27 * i)) else Y f j) = if f = F ∧ 27 * i ≤ j ∧ j < 27 * i + (k + 1) then nI (g (j - 27 * i)) else Y f j
  by_cases h1 : f = F ∧ j = 27 * i + k
  · rw [if_pos h1, if_pos ⟨h1.1, by omega, by omega⟩, h1.2, show 27 * i + k - 27 * i = k from by omega]
  · rw [if_neg h1]
    by_cases h2 : f = F ∧ 27 * i ≤ j ∧ j < 27 * i + k
    · rw [if_pos h2, if_pos ⟨h2.1, h2.2.1, by omega⟩]
    · rw [if_neg h2, if_neg (fun c => by omega)]
theorem rowf_r {F i k r o : Nat} {Y : zT} {g : Nat → Nat} (h : r ≠ i) (hk : k ≤ 27) (ho : o < 27) : rowf F Y i k g F (27 * r + o) = Y F (27 * r + o) := if_neg (fun c => by omega)
theorem rowf_i {F i o : Nat} {Y : zT} {g : Nat → Nat} (ho : o < 27) : rowf F Y i 27 g F (27 * i + o) = nI (g o) := by
  refine (if_pos ⟨rfl, by omega, by omega⟩).trans ?_
  rw [show 27 * i + o - 27 * i = o from by omega]
theorem dnk_c {Z Z' : zT} (h : Z' 50 = Z 50) (i s k : Nat) : dnk Z' i s k = dnk Z i s k := by
  induction k with
  | zero => rfl
  | succ k ih =>
    show dnk Z' i s k + ix (Z' 50 (9 * i + 3 * mb s k + k)) = dnk Z i s k + ix (Z 50 (9 * i + 3 * mb s k + k))
    rw [ih, h]
/-- a row of OneEye's table -/
theorem e_row {a v w n m nn nl nw : Nat} {S : sT} {P : pT} {Y I Z : zT} {N c d i : Nat} {J : zT → Option (Int32 × zT)} (hR : Rel a v w S P Y I n Z m nn nl nw) (hc : c ≤ 9) (hN12 : N ≤ 12) (hd : i + d + 1 = N) (hr : 0 < d → ∀ o, o < 27 → Y 213 (27 * (i + 1) + o) = nI (wst (fun i s => dnk Z i s 3) c (d - 1) (i + 1) o)) :
    it1 (lX0_way_52 S P a (nI N) (nI c) (nI i) J) FU (enc a Y I) (nI 0) = J (enc a (rowf 213 Y i 27 (wst (fun i s => dnk Z i s 3) c d i)) I) := by
  obtain ⟨⟨hv, hw, hA, h4, h5, hL, hM⟩, hn, hX, hN, hB, hC, hP, hK⟩ := id hR
  have hm4 : m ≤ 4 := hN.2.1.1
  have hn20 : nn ≤ 20 := hN.2.1.2.1
  have hl99 : nl ≤ 99 := hN.2.1.2.2.1
  have hw9 : nw ≤ 9 := hN.2.1.2.2.2
  have hD : ∀ i s, (fun i s => dnk Z i s 3) i s ≤ 27 := fun i s => dnk_le hB i s 3
  refine it1_up (Q := fun o => o = J (enc a (rowf 213 Y i 27 (wst (fun i s => dnk Z i s 3) c d i)) I)) (N := 27) (fun k I' => I' = enc a (rowf 213 Y i k (wst (fun i s => dnk Z i s 3) c d i)) I) ?_ ?_ (F := FU) (FU_lt (by omega)) (by rw [rowf_0])
  · rintro kk s _ hs rfl
    have hRs : Rel a v w S P (rowf 213 Y i s (wst (fun i s => dnk Z i s 3) c d i)) I n Z m nn nl nw := R_yy (fun g hg => rowf_o (by omega)) hR
    refine ⟨_, ?_, rfl⟩
    rw [← rowf_s]
    have hdn : dnk Z i s 3 ≤ 27 := dnk_le hB i s 3
    unfold lX0_way_52
    rcases Nat.eq_zero_or_pos d with rfl | hp
    · have hex : ∀ J2 : Int32 → Option (Int32 × zT), it1 (lX0_way_65 S P a (nI N) (nI c) (nI i) (enc a (rowf 213 Y i s (wst (fun i s => dnk Z i s 3) c 0 i)) I) (nI s) J2) FU (nI 0) (nI 0) = J2 (nI 0) := by
        intro J2
        rw [show FU = 999999999999 + 1 from rfl, it1_s]
        refine Eq.trans (if_neg (by decide)) (if_pos ?_)
        rw [show nI N - (1 : Int32) = nI (N - 1) from ni_sub (b := 1) (by omega)]
        exact nI_le (by omega) (by omega)
      show _ = kk (enc a (zset (rowf 213 Y i s (wst (fun i s => dnk Z i s 3) c 0 i)) 213 (27 * i + s) (nI (dnk Z i s 3))) I) (nI (s + 1))
      rw [if_neg (show ¬ (27 : Int32) ≤ nI s from nI_ge (b := 27) hs (by omega)), njE, njE]
      refine Eq.trans (hex _) ?_
      ((repeat (first | (with_reducible refine Eq.trans njE ?_; (try dsimp only)) | ((conv => lhs; arg 1; simp (maxSteps := 1000000) (disch := omega) only [LA_ka hA, LA_p13 hA, LA_k13 hA, LA_n13 hA, LA_pE hA, LA_kE hA, LA_nE hA, ew_ls, e_dangerAt hRs (show i < 12 by omega) hs, li_0, li_1, li_2, li_3, li_4, li_5, li_6, li_7, li_8, li_9, li_10, li_11, li_12, li_13, li_14, li_15, li_16, li_17, li_18, li_19, li_20, li_21, li_22, li_23, li_24, li_25, li_26, li_27, li_28, li_29, li_30, li_31, li_32, li_33, li_34, li_35, li_36, li_37, li_38, li_39, li_40, li_41, li_42, li_43, li_44, li_45, li_48, li_57, li_59, li_61, li_63, li_64, li_65, li_72, li_90, li_97, li_99, li_101, li_102, li_103, li_104, li_105, li_108, li_109, li_111, li_114, li_115, li_116, li_117, li_118, li_120, li_121, li_122, li_216, li_240, li_255, li_256, li_380, li_400, li_480, li_511, li_512, li_729, li_1000, li_5184, li_10000, li_46656, li_65536, li_99999, li_1000000, ni_add, ni_mul, ni_sub, ni_ix, inb_t, ni_le_t, ni_le_f, ni_lt_t, ni_lt_f, ni_eq_t, ni_eq_f, ni_m1, ni_m1', ni_mn, ni_mn', Nat.add_sub_cancel, Nat.add_zero, zr_ne, zr_ni, zr_eq, gd_t, bd_s, if_true, if_false, Bool.not_true, Bool.not_false, ↓reduceIte, decide_false, decide_true]); (first | with_reducible refine Eq.trans gd_t ?_ | with_reducible refine Eq.trans bd_s ?_ | with_reducible refine Eq.trans bdp_s ?_ | with_reducible refine Eq.trans (if_pos trivial) ?_ | with_reducible refine Eq.trans (if_neg not_false) ?_ | with_reducible refine Eq.trans nmE ?_))));  (try simp (maxSteps := 1000000) (disch := omega) only [LA_ka hA, LA_p13 hA, LA_k13 hA, LA_n13 hA, LA_pE hA, LA_kE hA, LA_nE hA, ew_ls, e_dangerAt hRs (show i < 12 by omega) hs, li_0, li_1, li_2, li_3, li_4, li_5, li_6, li_7, li_8, li_9, li_10, li_11, li_12, li_13, li_14, li_15, li_16, li_17, li_18, li_19, li_20, li_21, li_22, li_23, li_24, li_25, li_26, li_27, li_28, li_29, li_30, li_31, li_32, li_33, li_34, li_35, li_36, li_37, li_38, li_39, li_40, li_41, li_42, li_43, li_44, li_45, li_48, li_57, li_59, li_61, li_63, li_64, li_65, li_72, li_90, li_97, li_99, li_101, li_102, li_103, li_104, li_105, li_108, li_109, li_111, li_114, li_115, li_116, li_117, li_118, li_120, li_121, li_122, li_216, li_240, li_255, li_256, li_380, li_400, li_480, li_511, li_512, li_729, li_1000, li_5184, li_10000, li_46656, li_65536, li_99999, li_1000000, ni_add, ni_mul, ni_sub, ni_ix, inb_t, ni_le_t, ni_le_f, ni_lt_t, ni_lt_f, ni_eq_t, ni_eq_f, ni_m1, ni_m1', ni_mn, ni_mn', Nat.add_sub_cancel, Nat.add_zero, zr_ne, zr_ni, zr_eq, gd_t, bd_s, if_true, if_false, Bool.not_true, Bool.not_false, ↓reduceIte, decide_false, decide_true]))
    · obtain ⟨d, rfl⟩ : ∃ q, d = q + 1 := ⟨d - 1, by omega⟩
      have hmn : mno (wf (fun i s => dnk Z i s 3) c d i s) 27 ≤ 1000000 := mno_le.1
      have hrest := fun J2 => e_rest (J := J2) (i := i) (N := N) (s := s) hRs hD hc (show d ≤ 11 by omega) (show i + 1 < N by omega) hN12 hs (fun o ho => by rw [rowf_r (by omega) (by omega) ho]; exact hr (by omega) o ho)
      show _ = kk (enc a (zset (rowf 213 Y i s (wst (fun i s => dnk Z i s 3) c (d + 1) i)) 213 (27 * i + s) (nI (dnk Z i s 3 + mno (wf (fun i s => dnk Z i s 3) c d i s) 27))) I) (nI (s + 1))
      rw [if_neg (show ¬ (27 : Int32) ≤ nI s from nI_ge (b := 27) hs (by omega)), njE, njE]
      refine Eq.trans (hrest _) ?_
      generalize mno (wf (fun i s => dnk Z i s 3) c d i s) 27 = mm at hmn ⊢
      ((repeat (first | (with_reducible refine Eq.trans njE ?_; (try dsimp only)) | ((conv => lhs; arg 1; simp (maxSteps := 1000000) (disch := omega) only [LA_ka hA, LA_p13 hA, LA_k13 hA, LA_n13 hA, LA_pE hA, LA_kE hA, LA_nE hA, ew_ls, e_dangerAt hRs (show i < 12 by omega) hs, li_0, li_1, li_2, li_3, li_4, li_5, li_6, li_7, li_8, li_9, li_10, li_11, li_12, li_13, li_14, li_15, li_16, li_17, li_18, li_19, li_20, li_21, li_22, li_23, li_24, li_25, li_26, li_27, li_28, li_29, li_30, li_31, li_32, li_33, li_34, li_35, li_36, li_37, li_38, li_39, li_40, li_41, li_42, li_43, li_44, li_45, li_48, li_57, li_59, li_61, li_63, li_64, li_65, li_72, li_90, li_97, li_99, li_101, li_102, li_103, li_104, li_105, li_108, li_109, li_111, li_114, li_115, li_116, li_117, li_118, li_120, li_121, li_122, li_216, li_240, li_255, li_256, li_380, li_400, li_480, li_511, li_512, li_729, li_1000, li_5184, li_10000, li_46656, li_65536, li_99999, li_1000000, ni_add, ni_mul, ni_sub, ni_ix, inb_t, ni_le_t, ni_le_f, ni_lt_t, ni_lt_f, ni_eq_t, ni_eq_f, ni_m1, ni_m1', ni_mn, ni_mn', Nat.add_sub_cancel, Nat.add_zero, zr_ne, zr_ni, zr_eq, gd_t, bd_s, if_true, if_false, Bool.not_true, Bool.not_false, ↓reduceIte, decide_false, decide_true]); (first | with_reducible refine Eq.trans gd_t ?_ | with_reducible refine Eq.trans bd_s ?_ | with_reducible refine Eq.trans bdp_s ?_ | with_reducible refine Eq.trans (if_pos trivial) ?_ | with_reducible refine Eq.trans (if_neg not_false) ?_ | with_reducible refine Eq.trans nmE ?_))));  (try simp (maxSteps := 1000000) (disch := omega) only [LA_ka hA, LA_p13 hA, LA_k13 hA, LA_n13 hA, LA_pE hA, LA_kE hA, LA_nE hA, ew_ls, e_dangerAt hRs (show i < 12 by omega) hs, li_0, li_1, li_2, li_3, li_4, li_5, li_6, li_7, li_8, li_9, li_10, li_11, li_12, li_13, li_14, li_15, li_16, li_17, li_18, li_19, li_20, li_21, li_22, li_23, li_24, li_25, li_26, li_27, li_28, li_29, li_30, li_31, li_32, li_33, li_34, li_35, li_36, li_37, li_38, li_39, li_40, li_41, li_42, li_43, li_44, li_45, li_48, li_57, li_59, li_61, li_63, li_64, li_65, li_72, li_90, li_97, li_99, li_101, li_102, li_103, li_104, li_105, li_108, li_109, li_111, li_114, li_115, li_116, li_117, li_118, li_120, li_121, li_122, li_216, li_240, li_255, li_256, li_380, li_400, li_480, li_511, li_512, li_729, li_1000, li_5184, li_10000, li_46656, li_65536, li_99999, li_1000000, ni_add, ni_mul, ni_sub, ni_ix, inb_t, ni_le_t, ni_le_f, ni_lt_t, ni_lt_f, ni_eq_t, ni_eq_f, ni_m1, ni_m1', ni_mn, ni_mn', Nat.add_sub_cancel, Nat.add_zero, zr_ne, zr_ni, zr_eq, gd_t, bd_s, if_true, if_false, Bool.not_true, Bool.not_false, ↓reduceIte, decide_false, decide_true]))
  · rintro kk _ rfl
    exact if_pos (by decide)
/-- a row of OneEyeModel's table -/
theorem m_row {a v w n m nn nl nw : Nat} {S : sT} {P : pT} {Y I Z : zT} {N c d i : Nat} {Z0 : zT} {J : zT → Option (Int32 × zT)} (hR : Rel a v w S P Y I n Z m nn nl nw) (h50 : Z 50 = Z0 50) (hc : c ≤ 9) (hN12 : N ≤ 12) (hd : i + d + 1 = N) (hr : 0 < d → ∀ o, o < 27 → Z 51 (27 * (i + 1) + o) = nI (wst (fun i s => dnk Z0 i s 3) c (d - 1) (i + 1) o)) :
    it1 (lX4_way_60 (nI N) (nI c) (nI i) J) FU Z (nI 0) = J (rowf 51 Z i 27 (wst (fun i s => dnk Z0 i s 3) c d i)) := by
  obtain ⟨⟨hv, hw, hA, h4, h5, hL, hM⟩, hn, hX, hN, hB, hC, hP, hK⟩ := id hR
  have hm4 : m ≤ 4 := hN.2.1.1
  have hn20 : nn ≤ 20 := hN.2.1.2.1
  have hl99 : nl ≤ 99 := hN.2.1.2.2.1
  have hw9 : nw ≤ 9 := hN.2.1.2.2.2
  have hD : ∀ i s, (fun i s => dnk Z0 i s 3) i s ≤ 27 := fun i s => by
    show dnk Z0 i s 3 ≤ 27
    rw [← dnk_c h50]; exact dnk_le hB i s 3
  refine it1_up (Q := fun o => o = J (rowf 51 Z i 27 (wst (fun i s => dnk Z0 i s 3) c d i))) (N := 27) (fun k I' => I' = rowf 51 Z i k (wst (fun i s => dnk Z0 i s 3) c d i)) ?_ ?_ (F := FU) (FU_lt (by omega)) rowf_0.symm
  · rintro kk s _ hs rfl
    have h50s : rowf 51 Z i s (wst (fun i s => dnk Z0 i s 3) c d i) 50 = Z0 50 := (rowf_o (by omega)).trans h50
    have hBs : MB (rowf 51 Z i s (wst (fun i s => dnk Z0 i s 3) c d i)) := by
      intro f j hf
      by_cases h : f = 51
      · subst h; exact absurd rfl hf
      · rw [rowf_o h]; exact hB f j hf
    have hda := m_dangerAt (i := i) hBs (by omega) hs
    rw [dnk_c h50s] at hda
    have hdn : dnk Z0 i s 3 ≤ 27 := hD i s
    refine ⟨_, ?_, rfl⟩
    rw [← rowf_s]
    unfold lX4_way_60
    rcases Nat.eq_zero_or_pos d with rfl | hp
    · show _ = kk (zset (rowf 51 Z i s (wst (fun i s => dnk Z0 i s 3) c 0 i)) 51 (27 * i + s) (nI (dnk Z0 i s 3))) (nI (s + 1))
      have hN1 : N - 1 = i := by omega
      ((repeat (first | (with_reducible refine Eq.trans njE ?_; (try dsimp only)) | ((conv => lhs; arg 1; simp (maxSteps := 1000000) (disch := omega) only [hda, hN1, li_0, li_1, li_2, li_3, li_4, li_5, li_6, li_7, li_8, li_9, li_10, li_11, li_12, li_13, li_14, li_15, li_16, li_17, li_18, li_19, li_20, li_21, li_22, li_23, li_24, li_25, li_26, li_27, li_28, li_29, li_30, li_31, li_32, li_33, li_34, li_35, li_36, li_37, li_38, li_39, li_40, li_41, li_42, li_43, li_44, li_45, li_48, li_57, li_59, li_61, li_63, li_64, li_65, li_72, li_90, li_97, li_99, li_101, li_102, li_103, li_104, li_105, li_108, li_109, li_111, li_114, li_115, li_116, li_117, li_118, li_120, li_121, li_122, li_216, li_240, li_255, li_256, li_380, li_400, li_480, li_511, li_512, li_729, li_1000, li_5184, li_10000, li_46656, li_65536, li_99999, li_1000000, ni_add, ni_mul, ni_sub, ni_ix, inb_t, ni_le_t, ni_le_f, ni_lt_t, ni_lt_f, ni_eq_t, ni_eq_f, ni_m1, ni_m1', ni_mn, ni_mn', Nat.add_sub_cancel, Nat.add_zero, zr_ne, zr_ni, zr_eq, gd_t, bd_s, if_true, if_false, Bool.not_true, Bool.not_false, ↓reduceIte, decide_false, decide_true]); (first | with_reducible refine Eq.trans gd_t ?_ | with_reducible refine Eq.trans bd_s ?_ | with_reducible refine Eq.trans bdp_s ?_ | with_reducible refine Eq.trans (if_pos trivial) ?_ | with_reducible refine Eq.trans (if_neg not_false) ?_ | with_reducible refine Eq.trans nmE ?_))));  (try simp (maxSteps := 1000000) (disch := omega) only [hda, hN1, li_0, li_1, li_2, li_3, li_4, li_5, li_6, li_7, li_8, li_9, li_10, li_11, li_12, li_13, li_14, li_15, li_16, li_17, li_18, li_19, li_20, li_21, li_22, li_23, li_24, li_25, li_26, li_27, li_28, li_29, li_30, li_31, li_32, li_33, li_34, li_35, li_36, li_37, li_38, li_39, li_40, li_41, li_42, li_43, li_44, li_45, li_48, li_57, li_59, li_61, li_63, li_64, li_65, li_72, li_90, li_97, li_99, li_101, li_102, li_103, li_104, li_105, li_108, li_109, li_111, li_114, li_115, li_116, li_117, li_118, li_120, li_121, li_122, li_216, li_240, li_255, li_256, li_380, li_400, li_480, li_511, li_512, li_729, li_1000, li_5184, li_10000, li_46656, li_65536, li_99999, li_1000000, ni_add, ni_mul, ni_sub, ni_ix, inb_t, ni_le_t, ni_le_f, ni_lt_t, ni_lt_f, ni_eq_t, ni_eq_f, ni_m1, ni_m1', ni_mn, ni_mn', Nat.add_sub_cancel, Nat.add_zero, zr_ne, zr_ni, zr_eq, gd_t, bd_s, if_true, if_false, Bool.not_true, Bool.not_false, ↓reduceIte, decide_false, decide_true]))
    · obtain ⟨d, rfl⟩ : ∃ q, d = q + 1 := ⟨d - 1, by omega⟩
      have hmn : mno (wf (fun i s => dnk Z0 i s 3) c d i s) 27 ≤ 1000000 := mno_le.1
      have hbh := m_behind (i := i) (s := s) (Z := rowf 51 Z i s (wst (fun i s => dnk Z0 i s 3) c (d + 1) i)) hD hc (show d ≤ 11 by omega) (by omega) hs (fun o ho => by rw [rowf_r (by omega) (by omega) ho]; exact hr (by omega) o ho)
      show _ = kk (zset (rowf 51 Z i s (wst (fun i s => dnk Z0 i s 3) c (d + 1) i)) 51 (27 * i + s) (nI (dnk Z0 i s 3 + mno (wf (fun i s => dnk Z0 i s 3) c d i s) 27))) (nI (s + 1))
      generalize mno (wf (fun i s => dnk Z0 i s 3) c d i s) 27 = mm at hmn hbh ⊢
      ((repeat (first | (with_reducible refine Eq.trans njE ?_; (try dsimp only)) | ((conv => lhs; arg 1; simp (maxSteps := 1000000) (disch := omega) only [hda, hbh, li_0, li_1, li_2, li_3, li_4, li_5, li_6, li_7, li_8, li_9, li_10, li_11, li_12, li_13, li_14, li_15, li_16, li_17, li_18, li_19, li_20, li_21, li_22, li_23, li_24, li_25, li_26, li_27, li_28, li_29, li_30, li_31, li_32, li_33, li_34, li_35, li_36, li_37, li_38, li_39, li_40, li_41, li_42, li_43, li_44, li_45, li_48, li_57, li_59, li_61, li_63, li_64, li_65, li_72, li_90, li_97, li_99, li_101, li_102, li_103, li_104, li_105, li_108, li_109, li_111, li_114, li_115, li_116, li_117, li_118, li_120, li_121, li_122, li_216, li_240, li_255, li_256, li_380, li_400, li_480, li_511, li_512, li_729, li_1000, li_5184, li_10000, li_46656, li_65536, li_99999, li_1000000, ni_add, ni_mul, ni_sub, ni_ix, inb_t, ni_le_t, ni_le_f, ni_lt_t, ni_lt_f, ni_eq_t, ni_eq_f, ni_m1, ni_m1', ni_mn, ni_mn', Nat.add_sub_cancel, Nat.add_zero, zr_ne, zr_ni, zr_eq, gd_t, bd_s, if_true, if_false, Bool.not_true, Bool.not_false, ↓reduceIte, decide_false, decide_true]); (first | with_reducible refine Eq.trans gd_t ?_ | with_reducible refine Eq.trans bd_s ?_ | with_reducible refine Eq.trans bdp_s ?_ | with_reducible refine Eq.trans (if_pos trivial) ?_ | with_reducible refine Eq.trans (if_neg not_false) ?_ | with_reducible refine Eq.trans nmE ?_))));  (try simp (maxSteps := 1000000) (disch := omega) only [hda, hbh, li_0, li_1, li_2, li_3, li_4, li_5, li_6, li_7, li_8, li_9, li_10, li_11, li_12, li_13, li_14, li_15, li_16, li_17, li_18, li_19, li_20, li_21, li_22, li_23, li_24, li_25, li_26, li_27, li_28, li_29, li_30, li_31, li_32, li_33, li_34, li_35, li_36, li_37, li_38, li_39, li_40, li_41, li_42, li_43, li_44, li_45, li_48, li_57, li_59, li_61, li_63, li_64, li_65, li_72, li_90, li_97, li_99, li_101, li_102, li_103, li_104, li_105, li_108, li_109, li_111, li_114, li_115, li_116, li_117, li_118, li_120, li_121, li_122, li_216, li_240, li_255, li_256, li_380, li_400, li_480, li_511, li_512, li_729, li_1000, li_5184, li_10000, li_46656, li_65536, li_99999, li_1000000, ni_add, ni_mul, ni_sub, ni_ix, inb_t, ni_le_t, ni_le_f, ni_lt_t, ni_lt_f, ni_eq_t, ni_eq_f, ni_m1, ni_m1', ni_mn, ni_mn', Nat.add_sub_cancel, Nat.add_zero, zr_ne, zr_ni, zr_eq, gd_t, bd_s, if_true, if_false, Bool.not_true, Bool.not_false, ↓reduceIte, decide_false, decide_true]))
  · rintro kk _ rfl
    exact if_pos (by decide)
