/-! LAYER 2: the way: the least costs -/
def mno (f : Nat → Nat) : Nat → Nat
  | 0 => 1000000
  | k + 1 => if f k < mno f k then f k else mno f k
theorem mno_le {f : Nat → Nat} {k : Nat} : mno f k ≤ 1000000 ∧ ∀ o, o < k → mno f k ≤ f o := by
  induction k with
  | zero => exact ⟨Nat.le_refl _, fun o h => absurd h (Nat.not_lt_zero _)⟩
  | succ k ih =>
    show (if f k < mno f k then f k else mno f k) ≤ 1000000 ∧ ∀ o, o < k + 1 → (if f k < mno f k then f k else mno f k) ≤ f o
    have h2 := ih.1
    split
    · next h =>
      refine ⟨by omega, fun o ho => ?_⟩
      rcases Nat.lt_or_ge o k with c | c
      · have := ih.2 o c; omega
      · obtain rfl : o = k := by omega
        exact Nat.le_refl _
    · next h =>
      refine ⟨h2, fun o ho => ?_⟩
      rcases Nat.lt_or_ge o k with c | c
      · exact ih.2 o c
      · obtain rfl : o = k := by omega
        omega
theorem mno_at {f : Nat → Nat} {k : Nat} (hk : 0 < k) (hf : ∀ o, o < k → f o < 1000000) : ∃ o, o < k ∧ f o = mno f k := by
  induction k with
  | zero => exact absurd hk (Nat.lt_irrefl _)
  | succ k ih =>
    show ∃ o, o < k + 1 ∧ f o = if f k < mno f k then f k else mno f k
    split
    · exact ⟨k, by omega, rfl⟩
    · next h =>
      rcases Nat.eq_zero_or_pos k with rfl | hp
      · exact absurd (hf 0 (by omega)) h
      · obtain ⟨o, h1, h2⟩ := ih hp (fun o ho => hf o (by omega))
        exact ⟨o, by omega, h2⟩
/-- cost of a way from place i on, d places behind it -/
def wst (D : Nat → Nat → Nat) (c : Nat) : Nat → Nat → Nat → Nat
  | 0, i, s => D i s
  | d + 1, i, s => D i s + mno (fun o => c * tlk s o 3 + wst D c d (i + 1) o) 27
theorem wst_le {D : Nat → Nat → Nat} {c : Nat} (hD : ∀ i s, D i s ≤ 27) (hc : c ≤ 9) : ∀ d i s, wst D c d i s ≤ 54 * d + 27 := by
  intro d
  induction d with
  | zero => intro i s; show D i s ≤ _; have := hD i s; omega
  | succ d ih =>
    intro i s
    show D i s + mno (fun o => c * tlk s o 3 + wst D c d (i + 1) o) 27 ≤ _
    have h1 := hD i s
    have h2 := (mno_le (f := fun o => c * tlk s o 3 + wst D c d (i + 1) o) (k := 27)).2 0 (by omega)
    have h3 := ih (i + 1) 0
    have h4 := tlk_le s 0 3
    have h5 : c * tlk s 0 3 ≤ 9 * 3 := Nat.mul_le_mul hc h4
    omega
/-- what a place and a next one cost -/
def wf (D : Nat → Nat → Nat) (c d i s : Nat) (o : Nat) : Nat := c * tlk s o 3 + wst D c d (i + 1) o
theorem wf_lt {D : Nat → Nat → Nat} {c d i s o : Nat} (hD : ∀ i s, D i s ≤ 27) (hc : c ≤ 9) (hd : d ≤ 11) : wf D c d i s o ≤ 700 := by
  unfold wf
  have h3 := wst_le hD hc d (i + 1) o
  have h4 := tlk_le s o 3
  have h5 : c * tlk s o 3 ≤ 9 * 3 := Nat.mul_le_mul hc h4
  omega
/-- OneEyeModel's behind -/
theorem m_behind {D : Nat → Nat → Nat} {Z : zT} {c d i s : Nat} (hD : ∀ i s, D i s ≤ 27) (hc : c ≤ 9) (hd : d ≤ 11) (hi : i < 12) (hs : s < 27) (hr : ∀ o, o < 27 → Z 51 (27 * (i + 1) + o) = nI (wst D c d (i + 1) o)) : fX4_behind Z (nI i) (nI s) (nI c) = some (nI (mno (wf D c d i s) 27)) := by
  unfold fX4_behind
  rw [njE]
  refine it1_up (Q := fun o => o = some (nI (mno (wf D c d i s) 27))) (N := 27) (s := nI 1000000) (fun k u => u = nI (mno (wf D c d i s) k)) ?_ ?_ (F := FU) (FU_lt (by omega)) rfl
  · rintro kk k _ hk rfl
    have h1 := (mno_le (f := wf D c d i s) (k := k)).1
    have h2 : wf D c d i s k ≤ 700 := wf_lt hD hc hd
    refine ⟨_, ?_, rfl⟩
    unfold lX4_behind_8
    show _ = kk (nI (if wf D c d i s k < mno (wf D c d i s) k then wf D c d i s k else mno (wf D c d i s) k)) _
    have hr' := hr k hk
    have hw : wf D c d i s k = c * tlk s k 3 + wst D c d (i + 1) k := rfl
    generalize mno (wf D c d i s) k = mm at h1 ⊢
    by_cases hcc : wf D c d i s k < mm
    · rw [if_pos hcc]
      rw [hw] at hcc h2 ⊢
      ((repeat (first | (with_reducible refine Eq.trans njE ?_; (try dsimp only)) | ((conv => lhs; arg 1; simp (maxSteps := 1000000) (disch := omega) only [m_tolls hs hk, hr', li_0, li_1, li_2, li_3, li_4, li_5, li_6, li_7, li_8, li_9, li_10, li_11, li_12, li_13, li_14, li_15, li_16, li_17, li_18, li_19, li_20, li_21, li_22, li_23, li_24, li_25, li_26, li_27, li_28, li_29, li_30, li_31, li_32, li_33, li_34, li_35, li_36, li_37, li_38, li_39, li_40, li_41, li_42, li_43, li_44, li_45, li_48, li_57, li_59, li_61, li_63, li_64, li_65, li_72, li_90, li_97, li_99, li_101, li_102, li_103, li_104, li_105, li_108, li_109, li_111, li_114, li_115, li_116, li_117, li_118, li_120, li_121, li_122, li_216, li_240, li_255, li_256, li_380, li_400, li_480, li_511, li_512, li_729, li_1000, li_5184, li_10000, li_46656, li_65536, li_99999, li_1000000, ni_add, ni_mul, ni_sub, ni_ix, inb_t, ni_le_t, ni_le_f, ni_lt_t, ni_lt_f, ni_eq_t, ni_eq_f, ni_m1, ni_m1', ni_mn, ni_mn', Nat.add_sub_cancel, Nat.add_zero, zr_ne, zr_ni, zr_eq, gd_t, bd_s, if_true, if_false, Bool.not_true, Bool.not_false, ↓reduceIte, decide_false, decide_true]); (first | with_reducible refine Eq.trans gd_t ?_ | with_reducible refine Eq.trans bd_s ?_ | with_reducible refine Eq.trans bdp_s ?_ | with_reducible refine Eq.trans (if_pos trivial) ?_ | with_reducible refine Eq.trans (if_neg not_false) ?_ | with_reducible refine Eq.trans nmE ?_))));  (try simp (maxSteps := 1000000) (disch := omega) only [m_tolls hs hk, hr', li_0, li_1, li_2, li_3, li_4, li_5, li_6, li_7, li_8, li_9, li_10, li_11, li_12, li_13, li_14, li_15, li_16, li_17, li_18, li_19, li_20, li_21, li_22, li_23, li_24, li_25, li_26, li_27, li_28, li_29, li_30, li_31, li_32, li_33, li_34, li_35, li_36, li_37, li_38, li_39, li_40, li_41, li_42, li_43, li_44, li_45, li_48, li_57, li_59, li_61, li_63, li_64, li_65, li_72, li_90, li_97, li_99, li_101, li_102, li_103, li_104, li_105, li_108, li_109, li_111, li_114, li_115, li_116, li_117, li_118, li_120, li_121, li_122, li_216, li_240, li_255, li_256, li_380, li_400, li_480, li_511, li_512, li_729, li_1000, li_5184, li_10000, li_46656, li_65536, li_99999, li_1000000, ni_add, ni_mul, ni_sub, ni_ix, inb_t, ni_le_t, ni_le_f, ni_lt_t, ni_lt_f, ni_eq_t, ni_eq_f, ni_m1, ni_m1', ni_mn, ni_mn', Nat.add_sub_cancel, Nat.add_zero, zr_ne, zr_ni, zr_eq, gd_t, bd_s, if_true, if_false, Bool.not_true, Bool.not_false, ↓reduceIte, decide_false, decide_true]))
    · rw [if_neg hcc]
      rw [hw] at hcc h2
      ((repeat (first | (with_reducible refine Eq.trans njE ?_; (try dsimp only)) | ((conv => lhs; arg 1; simp (maxSteps := 1000000) (disch := omega) only [m_tolls hs hk, hr', li_0, li_1, li_2, li_3, li_4, li_5, li_6, li_7, li_8, li_9, li_10, li_11, li_12, li_13, li_14, li_15, li_16, li_17, li_18, li_19, li_20, li_21, li_22, li_23, li_24, li_25, li_26, li_27, li_28, li_29, li_30, li_31, li_32, li_33, li_34, li_35, li_36, li_37, li_38, li_39, li_40, li_41, li_42, li_43, li_44, li_45, li_48, li_57, li_59, li_61, li_63, li_64, li_65, li_72, li_90, li_97, li_99, li_101, li_102, li_103, li_104, li_105, li_108, li_109, li_111, li_114, li_115, li_116, li_117, li_118, li_120, li_121, li_122, li_216, li_240, li_255, li_256, li_380, li_400, li_480, li_511, li_512, li_729, li_1000, li_5184, li_10000, li_46656, li_65536, li_99999, li_1000000, ni_add, ni_mul, ni_sub, ni_ix, inb_t, ni_le_t, ni_le_f, ni_lt_t, ni_lt_f, ni_eq_t, ni_eq_f, ni_m1, ni_m1', ni_mn, ni_mn', Nat.add_sub_cancel, Nat.add_zero, zr_ne, zr_ni, zr_eq, gd_t, bd_s, if_true, if_false, Bool.not_true, Bool.not_false, ↓reduceIte, decide_false, decide_true]); (first | with_reducible refine Eq.trans gd_t ?_ | with_reducible refine Eq.trans bd_s ?_ | with_reducible refine Eq.trans bdp_s ?_ | with_reducible refine Eq.trans (if_pos trivial) ?_ | with_reducible refine Eq.trans (if_neg not_false) ?_ | with_reducible refine Eq.trans nmE ?_))));  (try simp (maxSteps := 1000000) (disch := omega) only [m_tolls hs hk, hr', li_0, li_1, li_2, li_3, li_4, li_5, li_6, li_7, li_8, li_9, li_10, li_11, li_12, li_13, li_14, li_15, li_16, li_17, li_18, li_19, li_20, li_21, li_22, li_23, li_24, li_25, li_26, li_27, li_28, li_29, li_30, li_31, li_32, li_33, li_34, li_35, li_36, li_37, li_38, li_39, li_40, li_41, li_42, li_43, li_44, li_45, li_48, li_57, li_59, li_61, li_63, li_64, li_65, li_72, li_90, li_97, li_99, li_101, li_102, li_103, li_104, li_105, li_108, li_109, li_111, li_114, li_115, li_116, li_117, li_118, li_120, li_121, li_122, li_216, li_240, li_255, li_256, li_380, li_400, li_480, li_511, li_512, li_729, li_1000, li_5184, li_10000, li_46656, li_65536, li_99999, li_1000000, ni_add, ni_mul, ni_sub, ni_ix, inb_t, ni_le_t, ni_le_f, ni_lt_t, ni_lt_f, ni_eq_t, ni_eq_f, ni_m1, ni_m1', ni_mn, ni_mn', Nat.add_sub_cancel, Nat.add_zero, zr_ne, zr_ni, zr_eq, gd_t, bd_s, if_true, if_false, Bool.not_true, Bool.not_false, ↓reduceIte, decide_false, decide_true]))
  · rintro kk _ rfl
    exact if_pos (by decide)
/-- OneEye's least of a place -/
theorem e_rest {a v w n m nn nl nw : Nat} {S : sT} {P : pT} {Y I Z : zT} {D : Nat → Nat → Nat} {N c d i s : Nat} {J : Int32 → Option (Int32 × zT)} (hR : Rel a v w S P Y I n Z m nn nl nw) (hD : ∀ i s, D i s ≤ 27) (hc : c ≤ 9) (hd : d ≤ 11) (hi : i + 1 < N) (hN12 : N ≤ 12) (hs : s < 27) (hr : ∀ o, o < 27 → Y 213 (27 * (i + 1) + o) = nI (wst D c d (i + 1) o)) : it1 (lX0_way_65 S P a (nI N) (nI c) (nI i) (enc a Y I) (nI s) J) FU (nI 0) (nI 0) = J (nI (mno (wf D c d i s) 27)) := by
  obtain ⟨⟨hv, hw, hA, h4, h5, hL, hM⟩, hn, hX, hN, hB, hC, hP, hK⟩ := id hR
  have hm4 : m ≤ 4 := hN.2.1.1
  have hn20 : nn ≤ 20 := hN.2.1.2.1
  have hl99 : nl ≤ 99 := hN.2.1.2.2.1
  have hw9 : nw ≤ 9 := hN.2.1.2.2.2
  refine it1_up (Q := fun o => o = J (nI (mno (wf D c d i s) 27))) (N := 27) (s := nI 0) (fun k u => u = if k = 0 then nI 0 else nI (mno (wf D c d i s) k)) ?_ ?_ (F := FU) (FU_lt (by omega)) rfl
  · rintro kk k _ hk rfl
    have h1 := (mno_le (f := wf D c d i s) (k := k)).1
    have h2 : wf D c d i s k ≤ 700 := wf_lt hD hc hd
    refine ⟨_, ?_, (if_neg (Nat.succ_ne_zero k)).symm⟩
    unfold lX0_way_65
    show _ = kk (nI (if wf D c d i s k < mno (wf D c d i s) k then wf D c d i s k else mno (wf D c d i s) k)) _
    have hr' := hr k hk
    have hw : wf D c d i s k = c * tlk s k 3 + wst D c d (i + 1) k := rfl
    rcases Nat.eq_zero_or_pos k with rfl | hp
    · rw [if_pos rfl, if_pos (show wf D c d i s 0 < mno (wf D c d i s) 0 from Nat.lt_of_le_of_lt h2 (by decide : 700 < 1000000))]
      rw [hw] at h2 ⊢
      have hr0 : Y 213 (27 * (i + 1)) = nI (wst D c d (i + 1) 0) := hr'
      ((repeat (first | (with_reducible refine Eq.trans njE ?_; (try dsimp only)) | ((conv => lhs; arg 1; simp (maxSteps := 1000000) (disch := omega) only [e_changes hs hk, hr', hr0, LA_ka hA, LA_p13 hA, LA_k13 hA, LA_n13 hA, LA_pE hA, LA_kE hA, LA_nE hA, er_ls, li_0, li_1, li_2, li_3, li_4, li_5, li_6, li_7, li_8, li_9, li_10, li_11, li_12, li_13, li_14, li_15, li_16, li_17, li_18, li_19, li_20, li_21, li_22, li_23, li_24, li_25, li_26, li_27, li_28, li_29, li_30, li_31, li_32, li_33, li_34, li_35, li_36, li_37, li_38, li_39, li_40, li_41, li_42, li_43, li_44, li_45, li_48, li_57, li_59, li_61, li_63, li_64, li_65, li_72, li_90, li_97, li_99, li_101, li_102, li_103, li_104, li_105, li_108, li_109, li_111, li_114, li_115, li_116, li_117, li_118, li_120, li_121, li_122, li_216, li_240, li_255, li_256, li_380, li_400, li_480, li_511, li_512, li_729, li_1000, li_5184, li_10000, li_46656, li_65536, li_99999, li_1000000, ni_add, ni_mul, ni_sub, ni_ix, inb_t, ni_le_t, ni_le_f, ni_lt_t, ni_lt_f, ni_eq_t, ni_eq_f, ni_m1, ni_m1', ni_mn, ni_mn', Nat.add_sub_cancel, Nat.add_zero, zr_ne, zr_ni, zr_eq, gd_t, bd_s, if_true, if_false, Bool.not_true, Bool.not_false, ↓reduceIte, decide_false, decide_true]); (first | with_reducible refine Eq.trans gd_t ?_ | with_reducible refine Eq.trans bd_s ?_ | with_reducible refine Eq.trans bdp_s ?_ | with_reducible refine Eq.trans (if_pos trivial) ?_ | with_reducible refine Eq.trans (if_neg not_false) ?_ | with_reducible refine Eq.trans nmE ?_))));  (try simp (maxSteps := 1000000) (disch := omega) only [e_changes hs hk, hr', hr0, LA_ka hA, LA_p13 hA, LA_k13 hA, LA_n13 hA, LA_pE hA, LA_kE hA, LA_nE hA, er_ls, li_0, li_1, li_2, li_3, li_4, li_5, li_6, li_7, li_8, li_9, li_10, li_11, li_12, li_13, li_14, li_15, li_16, li_17, li_18, li_19, li_20, li_21, li_22, li_23, li_24, li_25, li_26, li_27, li_28, li_29, li_30, li_31, li_32, li_33, li_34, li_35, li_36, li_37, li_38, li_39, li_40, li_41, li_42, li_43, li_44, li_45, li_48, li_57, li_59, li_61, li_63, li_64, li_65, li_72, li_90, li_97, li_99, li_101, li_102, li_103, li_104, li_105, li_108, li_109, li_111, li_114, li_115, li_116, li_117, li_118, li_120, li_121, li_122, li_216, li_240, li_255, li_256, li_380, li_400, li_480, li_511, li_512, li_729, li_1000, li_5184, li_10000, li_46656, li_65536, li_99999, li_1000000, ni_add, ni_mul, ni_sub, ni_ix, inb_t, ni_le_t, ni_le_f, ni_lt_t, ni_lt_f, ni_eq_t, ni_eq_f, ni_m1, ni_m1', ni_mn, ni_mn', Nat.add_sub_cancel, Nat.add_zero, zr_ne, zr_ni, zr_eq, gd_t, bd_s, if_true, if_false, Bool.not_true, Bool.not_false, ↓reduceIte, decide_false, decide_true]))
    · rw [if_neg (show ¬ k = 0 by omega)]
      generalize mno (wf D c d i s) k = mm at h1 ⊢
      by_cases hcc : wf D c d i s k < mm
      · rw [if_pos hcc]
        rw [hw] at hcc h2 ⊢
        ((repeat (first | (with_reducible refine Eq.trans njE ?_; (try dsimp only)) | ((conv => lhs; arg 1; simp (maxSteps := 1000000) (disch := omega) only [e_changes hs hk, hr', LA_ka hA, LA_p13 hA, LA_k13 hA, LA_n13 hA, LA_pE hA, LA_kE hA, LA_nE hA, er_ls, jmin, li_0, li_1, li_2, li_3, li_4, li_5, li_6, li_7, li_8, li_9, li_10, li_11, li_12, li_13, li_14, li_15, li_16, li_17, li_18, li_19, li_20, li_21, li_22, li_23, li_24, li_25, li_26, li_27, li_28, li_29, li_30, li_31, li_32, li_33, li_34, li_35, li_36, li_37, li_38, li_39, li_40, li_41, li_42, li_43, li_44, li_45, li_48, li_57, li_59, li_61, li_63, li_64, li_65, li_72, li_90, li_97, li_99, li_101, li_102, li_103, li_104, li_105, li_108, li_109, li_111, li_114, li_115, li_116, li_117, li_118, li_120, li_121, li_122, li_216, li_240, li_255, li_256, li_380, li_400, li_480, li_511, li_512, li_729, li_1000, li_5184, li_10000, li_46656, li_65536, li_99999, li_1000000, ni_add, ni_mul, ni_sub, ni_ix, inb_t, ni_le_t, ni_le_f, ni_lt_t, ni_lt_f, ni_eq_t, ni_eq_f, ni_m1, ni_m1', ni_mn, ni_mn', Nat.add_sub_cancel, Nat.add_zero, zr_ne, zr_ni, zr_eq, gd_t, bd_s, if_true, if_false, Bool.not_true, Bool.not_false, ↓reduceIte, decide_false, decide_true]); (first | with_reducible refine Eq.trans gd_t ?_ | with_reducible refine Eq.trans bd_s ?_ | with_reducible refine Eq.trans bdp_s ?_ | with_reducible refine Eq.trans (if_pos trivial) ?_ | with_reducible refine Eq.trans (if_neg not_false) ?_ | with_reducible refine Eq.trans nmE ?_))));  (try simp (maxSteps := 1000000) (disch := omega) only [e_changes hs hk, hr', LA_ka hA, LA_p13 hA, LA_k13 hA, LA_n13 hA, LA_pE hA, LA_kE hA, LA_nE hA, er_ls, jmin, li_0, li_1, li_2, li_3, li_4, li_5, li_6, li_7, li_8, li_9, li_10, li_11, li_12, li_13, li_14, li_15, li_16, li_17, li_18, li_19, li_20, li_21, li_22, li_23, li_24, li_25, li_26, li_27, li_28, li_29, li_30, li_31, li_32, li_33, li_34, li_35, li_36, li_37, li_38, li_39, li_40, li_41, li_42, li_43, li_44, li_45, li_48, li_57, li_59, li_61, li_63, li_64, li_65, li_72, li_90, li_97, li_99, li_101, li_102, li_103, li_104, li_105, li_108, li_109, li_111, li_114, li_115, li_116, li_117, li_118, li_120, li_121, li_122, li_216, li_240, li_255, li_256, li_380, li_400, li_480, li_511, li_512, li_729, li_1000, li_5184, li_10000, li_46656, li_65536, li_99999, li_1000000, ni_add, ni_mul, ni_sub, ni_ix, inb_t, ni_le_t, ni_le_f, ni_lt_t, ni_lt_f, ni_eq_t, ni_eq_f, ni_m1, ni_m1', ni_mn, ni_mn', Nat.add_sub_cancel, Nat.add_zero, zr_ne, zr_ni, zr_eq, gd_t, bd_s, if_true, if_false, Bool.not_true, Bool.not_false, ↓reduceIte, decide_false, decide_true]))
      · rw [if_neg hcc]
        rw [hw] at hcc h2
        ((repeat (first | (with_reducible refine Eq.trans njE ?_; (try dsimp only)) | ((conv => lhs; arg 1; simp (maxSteps := 1000000) (disch := omega) only [e_changes hs hk, hr', LA_ka hA, LA_p13 hA, LA_k13 hA, LA_n13 hA, LA_pE hA, LA_kE hA, LA_nE hA, er_ls, jmin, li_0, li_1, li_2, li_3, li_4, li_5, li_6, li_7, li_8, li_9, li_10, li_11, li_12, li_13, li_14, li_15, li_16, li_17, li_18, li_19, li_20, li_21, li_22, li_23, li_24, li_25, li_26, li_27, li_28, li_29, li_30, li_31, li_32, li_33, li_34, li_35, li_36, li_37, li_38, li_39, li_40, li_41, li_42, li_43, li_44, li_45, li_48, li_57, li_59, li_61, li_63, li_64, li_65, li_72, li_90, li_97, li_99, li_101, li_102, li_103, li_104, li_105, li_108, li_109, li_111, li_114, li_115, li_116, li_117, li_118, li_120, li_121, li_122, li_216, li_240, li_255, li_256, li_380, li_400, li_480, li_511, li_512, li_729, li_1000, li_5184, li_10000, li_46656, li_65536, li_99999, li_1000000, ni_add, ni_mul, ni_sub, ni_ix, inb_t, ni_le_t, ni_le_f, ni_lt_t, ni_lt_f, ni_eq_t, ni_eq_f, ni_m1, ni_m1', ni_mn, ni_mn', Nat.add_sub_cancel, Nat.add_zero, zr_ne, zr_ni, zr_eq, gd_t, bd_s, if_true, if_false, Bool.not_true, Bool.not_false, ↓reduceIte, decide_false, decide_true]); (first | with_reducible refine Eq.trans gd_t ?_ | with_reducible refine Eq.trans bd_s ?_ | with_reducible refine Eq.trans bdp_s ?_ | with_reducible refine Eq.trans (if_pos trivial) ?_ | with_reducible refine Eq.trans (if_neg not_false) ?_ | with_reducible refine Eq.trans nmE ?_))));  (try simp (maxSteps := 1000000) (disch := omega) only [e_changes hs hk, hr', LA_ka hA, LA_p13 hA, LA_k13 hA, LA_n13 hA, LA_pE hA, LA_kE hA, LA_nE hA, er_ls, jmin, li_0, li_1, li_2, li_3, li_4, li_5, li_6, li_7, li_8, li_9, li_10, li_11, li_12, li_13, li_14, li_15, li_16, li_17, li_18, li_19, li_20, li_21, li_22, li_23, li_24, li_25, li_26, li_27, li_28, li_29, li_30, li_31, li_32, li_33, li_34, li_35, li_36, li_37, li_38, li_39, li_40, li_41, li_42, li_43, li_44, li_45, li_48, li_57, li_59, li_61, li_63, li_64, li_65, li_72, li_90, li_97, li_99, li_101, li_102, li_103, li_104, li_105, li_108, li_109, li_111, li_114, li_115, li_116, li_117, li_118, li_120, li_121, li_122, li_216, li_240, li_255, li_256, li_380, li_400, li_480, li_511, li_512, li_729, li_1000, li_5184, li_10000, li_46656, li_65536, li_99999, li_1000000, ni_add, ni_mul, ni_sub, ni_ix, inb_t, ni_le_t, ni_le_f, ni_lt_t, ni_lt_f, ni_eq_t, ni_eq_f, ni_m1, ni_m1', ni_mn, ni_mn', Nat.add_sub_cancel, Nat.add_zero, zr_ne, zr_ni, zr_eq, gd_t, bd_s, if_true, if_false, Bool.not_true, Bool.not_false, ↓reduceIte, decide_false, decide_true]))
  · rintro kk _ rfl
    exact if_pos (by decide)
