/-! LAYER 2: the way: the whole table -/
theorem e_table {a v w n m nn nl nw : Nat} {S : sT} {P : pT} {Y I Z : zT} {N c : Nat} (hR : Rel a v w S P Y I n Z m nn nl nw) (hc : c ≤ 9) (hN12 : N ≤ 12) : ∀ i, i ≤ N → ∀ Yi : zT, (∀ g, g < 200 ∨ g = 217 → Yi g = Y g) → (∀ r, i ≤ r → r < N → ∀ o, o < 27 → Yi 213 (27 * r + o) = nI (wst (fun i s => dnk Z i s 3) c (N - 1 - r) r o)) →
    ∃ Y0 : zT, (∀ g, g < 200 ∨ g = 217 → Y0 g = Y g) ∧ (∀ r, r < N → ∀ o, o < 27 → Y0 213 (27 * r + o) = nI (wst (fun i s => dnk Z i s 3) c (N - 1 - r) r o)) ∧ ∀ (J : zT → Option (Int32 × zT)) F, it1 (lX0_way_44 S P a (nI N) (nI c) J) (F + i + 1) (enc a Yi I) (nI i - nI 1) = J (enc a Y0 I) := by
  intro i
  induction i with
  | zero =>
    intro _ Yi h1 h2
    exact ⟨Yi, h1, fun r hr o ho => h2 r (by omega) hr o ho, fun J F => by
      rw [it1_s]
      exact if_pos (show nI 0 - nI 1 < (0 : Int32) from by decide)⟩
  | succ i ih =>
    intro hi Yi h1 h2
    have hRi : Rel a v w S P Yi I n Z m nn nl nw := R_yy h1 hR
    obtain ⟨Y0, g1, g2, g3⟩ := ih (by omega) (rowf 213 Yi i 27 (wst (fun i s => dnk Z i s 3) c (N - 1 - i) i)) (fun g hg => by rw [rowf_o (by omega)]; exact h1 g hg) (fun r hr hr2 o ho => by
      by_cases e : r = i
      · subst e; exact rowf_i ho
      · rw [rowf_r e (by omega) ho]; exact h2 r (by omega) hr2 o ho)
    refine ⟨Y0, g1, g2, fun J F => ?_⟩
    rw [it1_s, ni_sub (show 1 ≤ i + 1 by omega), Nat.add_sub_cancel]
    unfold lX0_way_44
    rw [if_neg (nI_pos (show i < 2 ^ 31 by omega)), njE, njE]
    refine Eq.trans (e_row hRi hc hN12 (show i + (N - 1 - i) + 1 = N by omega) (fun hd o ho => by
      have := h2 (i + 1) (by omega) (by omega) o ho
      rw [show N - 1 - (i + 1) = N - 1 - i - 1 from by omega] at this
      exact this)) ?_
    rw [nmE, ← g3 J F]
    show it1 _ _ _ (nI i + (-1 : Int32)) = _
    rw [show nI i + (-1 : Int32) = nI i - nI 1 from by rw [Int32.sub_eq_add_neg]; rfl]
    rfl
theorem m_table {a v w n m nn nl nw : Nat} {S : sT} {P : pT} {Y I Z : zT} {N c : Nat} (hR : Rel a v w S P Y I n Z m nn nl nw) (hc : c ≤ 9) (hN12 : N ≤ 12) : ∀ i, i ≤ N → ∀ Zi : zT, (∀ g, g ≠ 51 → Zi g = Z g) → (∀ r, i ≤ r → r < N → ∀ o, o < 27 → Zi 51 (27 * r + o) = nI (wst (fun i s => dnk Z i s 3) c (N - 1 - r) r o)) →
    ∃ Z0 : zT, (∀ g, g ≠ 51 → Z0 g = Z g) ∧ (∀ r, r < N → ∀ o, o < 27 → Z0 51 (27 * r + o) = nI (wst (fun i s => dnk Z i s 3) c (N - 1 - r) r o)) ∧ ∀ (J : zT → Option (Int32 × zT)) F, it1 (lX4_way_52 (nI N) (nI c) J) (F + i + 1) Zi (nI i - nI 1) = J Z0 := by
  intro i
  induction i with
  | zero =>
    intro _ Zi h1 h2
    exact ⟨Zi, h1, fun r hr o ho => h2 r (by omega) hr o ho, fun J F => by
      rw [it1_s]
      exact if_pos (show nI 0 - nI 1 < (0 : Int32) from by decide)⟩
  | succ i ih =>
    intro hi Zi h1 h2
    have hRi : Rel a v w S P Y I n Zi m nn nl nw := R_zz (fun g hg => h1 g (by rintro rfl; exact absurd hg (by decide))) hR
    obtain ⟨Z0, g1, g2, g3⟩ := ih (by omega) (rowf 51 Zi i 27 (wst (fun i s => dnk Z i s 3) c (N - 1 - i) i)) (fun g hg => by rw [rowf_o hg]; exact h1 g hg) (fun r hr hr2 o ho => by
      by_cases e : r = i
      · subst e; exact rowf_i ho
      · rw [rowf_r e (by omega) ho]; exact h2 r (by omega) hr2 o ho)
    refine ⟨Z0, g1, g2, fun J F => ?_⟩
    rw [it1_s, ni_sub (show 1 ≤ i + 1 by omega), Nat.add_sub_cancel]
    unfold lX4_way_52
    rw [if_neg (nI_pos (show i < 2 ^ 31 by omega)), njE, njE]
    refine Eq.trans (m_row hRi (h1 50 (by omega)) hc hN12 (show i + (N - 1 - i) + 1 = N by omega) (fun hd o ho => by
      have := h2 (i + 1) (by omega) (by omega) o ho
      rw [show N - 1 - (i + 1) = N - 1 - i - 1 from by omega] at this
      exact this)) ?_
    rw [nmE, ← g3 J F]
    show it1 _ _ _ (nI i + (-1 : Int32)) = _
    rw [show nI i + (-1 : Int32) = nI i - nI 1 from by rw [Int32.sub_eq_add_neg]; rfl]
    rfl
/-- a counting loop from a place on -/
theorem it1_fr {ρ σ : Type} {b : (σ → Int32 → Option ρ) → σ → Int32 → Option ρ} {Q : Option ρ → Prop} {N i0 : Nat} (Inv : Nat → σ → Prop) (hs : ∀ k i s, i0 ≤ i → i < N → Inv i s → ∃ s', b k s (nI i) = k s' (nI (i + 1)) ∧ Inv (i + 1) s') (he : ∀ k s, Inv N s → Q (b k s (nI N))) {F : Nat} {s : σ} (hi : i0 ≤ N) (hF : N < F) (h0 : Inv i0 s) : Q (it1 b F s (nI i0)) := by
  refine it1_m (fun m s x => ∃ i, x = nI i ∧ i + m = N ∧ i0 ≤ i ∧ Inv i s) ?_ F (N - i0) s (nI i0) (by omega) ⟨i0, rfl, by omega, Nat.le_refl _, h0⟩
  rintro k m s x ⟨i, rfl, hm, hi, hv⟩
  rcases Nat.eq_zero_or_pos m with rfl | hp
  · obtain rfl : i = N := by omega
    exact Or.inl (he k s hv)
  · obtain ⟨s', h1, h2⟩ := hs k i s hi (by omega) hv
    exact Or.inr ⟨m - 1, s', nI (i + 1), by omega, h1, i + 1, rfl, by omega, by omega, h2⟩
/-- the first least place -/
def agm (u : Nat → Nat) : Nat → Nat
  | 0 => 0
  | k + 1 => if u (k + 1) < u (agm u k) then k + 1 else agm u k
theorem agm_le (u : Nat → Nat) (k : Nat) : agm u k ≤ k := by
  induction k with
  | zero => exact Nat.le_refl _
  | succ k ih =>
    show (if u (k + 1) < u (agm u k) then k + 1 else agm u k) ≤ k + 1
    split <;> omega
theorem e_agm {a : Nat} {S : sT} {P : pT} {Y I : zT} {u : Nat → Nat} {J : Int32 → Option (Int32 × zT)} (hA : LA S P a) (hu : ∀ o, o < 27 → Y 213 (27 * 0 + o) = nI (u o)) (hb : ∀ o, u o < 1000000) : it1 (lX0_way_168 S P a (enc a Y I) J) FU (nI 0) (nI 1) = J (nI (agm u 26)) := by
  refine it1_fr (Q := fun o => o = J (nI (agm u 26))) (N := 27) (i0 := 1) (fun k x => x = nI (agm u (k - 1))) ?_ ?_ (by omega) (FU_lt (by omega)) rfl
  · rintro kk k _ hk1 hk rfl
    obtain ⟨k, rfl⟩ : ∃ q, k = q + 1 := ⟨k - 1, by omega⟩
    have h1 := agm_le u k
    have h2 := hu (k + 1) (by omega)
    have h3 := hu (agm u k) (by omega)
    have h4 := hb (k + 1)
    have h5 := hb (agm u k)
    refine ⟨_, ?_, rfl⟩
    unfold lX0_way_168
    rw [Nat.add_sub_cancel]
    show _ = kk (nI (if u (k + 1) < u (agm u k) then k + 1 else agm u k)) _
    generalize agm u k = g at h1 h3 h5 ⊢
    by_cases hc : u (k + 1) < u g
    · rw [if_pos hc]
      ((repeat (first | (with_reducible refine Eq.trans njE ?_; (try dsimp only)) | ((conv => lhs; arg 1; simp (maxSteps := 1000000) (disch := omega) only [LA_ka hA, LA_p13 hA, LA_k13 hA, LA_n13 hA, LA_pE hA, LA_kE hA, LA_nE hA, er_ls, h2, h3, li_0, li_1, li_2, li_3, li_4, li_5, li_6, li_7, li_8, li_9, li_10, li_11, li_12, li_13, li_14, li_15, li_16, li_17, li_18, li_19, li_20, li_21, li_22, li_23, li_24, li_25, li_26, li_27, li_28, li_29, li_30, li_31, li_32, li_33, li_34, li_35, li_36, li_37, li_38, li_39, li_40, li_41, li_42, li_43, li_44, li_45, li_48, li_57, li_59, li_61, li_63, li_64, li_65, li_72, li_90, li_97, li_99, li_101, li_102, li_103, li_104, li_105, li_108, li_109, li_111, li_114, li_115, li_116, li_117, li_118, li_120, li_121, li_122, li_216, li_240, li_255, li_256, li_380, li_400, li_480, li_511, li_512, li_729, li_1000, li_5184, li_10000, li_46656, li_65536, li_99999, li_1000000, ni_add, ni_mul, ni_sub, ni_ix, inb_t, ni_le_t, ni_le_f, ni_lt_t, ni_lt_f, ni_eq_t, ni_eq_f, ni_m1, ni_m1', ni_mn, ni_mn', Nat.add_sub_cancel, Nat.add_zero, zr_ne, zr_ni, zr_eq, gd_t, bd_s, if_true, if_false, Bool.not_true, Bool.not_false, ↓reduceIte, decide_false, decide_true]); (first | with_reducible refine Eq.trans gd_t ?_ | with_reducible refine Eq.trans bd_s ?_ | with_reducible refine Eq.trans bdp_s ?_ | with_reducible refine Eq.trans (if_pos trivial) ?_ | with_reducible refine Eq.trans (if_neg not_false) ?_ | with_reducible refine Eq.trans nmE ?_))));  (try simp (maxSteps := 1000000) (disch := omega) only [LA_ka hA, LA_p13 hA, LA_k13 hA, LA_n13 hA, LA_pE hA, LA_kE hA, LA_nE hA, er_ls, h2, h3, li_0, li_1, li_2, li_3, li_4, li_5, li_6, li_7, li_8, li_9, li_10, li_11, li_12, li_13, li_14, li_15, li_16, li_17, li_18, li_19, li_20, li_21, li_22, li_23, li_24, li_25, li_26, li_27, li_28, li_29, li_30, li_31, li_32, li_33, li_34, li_35, li_36, li_37, li_38, li_39, li_40, li_41, li_42, li_43, li_44, li_45, li_48, li_57, li_59, li_61, li_63, li_64, li_65, li_72, li_90, li_97, li_99, li_101, li_102, li_103, li_104, li_105, li_108, li_109, li_111, li_114, li_115, li_116, li_117, li_118, li_120, li_121, li_122, li_216, li_240, li_255, li_256, li_380, li_400, li_480, li_511, li_512, li_729, li_1000, li_5184, li_10000, li_46656, li_65536, li_99999, li_1000000, ni_add, ni_mul, ni_sub, ni_ix, inb_t, ni_le_t, ni_le_f, ni_lt_t, ni_lt_f, ni_eq_t, ni_eq_f, ni_m1, ni_m1', ni_mn, ni_mn', Nat.add_sub_cancel, Nat.add_zero, zr_ne, zr_ni, zr_eq, gd_t, bd_s, if_true, if_false, Bool.not_true, Bool.not_false, ↓reduceIte, decide_false, decide_true]))
    · rw [if_neg hc]
      ((repeat (first | (with_reducible refine Eq.trans njE ?_; (try dsimp only)) | ((conv => lhs; arg 1; simp (maxSteps := 1000000) (disch := omega) only [LA_ka hA, LA_p13 hA, LA_k13 hA, LA_n13 hA, LA_pE hA, LA_kE hA, LA_nE hA, er_ls, h2, h3, li_0, li_1, li_2, li_3, li_4, li_5, li_6, li_7, li_8, li_9, li_10, li_11, li_12, li_13, li_14, li_15, li_16, li_17, li_18, li_19, li_20, li_21, li_22, li_23, li_24, li_25, li_26, li_27, li_28, li_29, li_30, li_31, li_32, li_33, li_34, li_35, li_36, li_37, li_38, li_39, li_40, li_41, li_42, li_43, li_44, li_45, li_48, li_57, li_59, li_61, li_63, li_64, li_65, li_72, li_90, li_97, li_99, li_101, li_102, li_103, li_104, li_105, li_108, li_109, li_111, li_114, li_115, li_116, li_117, li_118, li_120, li_121, li_122, li_216, li_240, li_255, li_256, li_380, li_400, li_480, li_511, li_512, li_729, li_1000, li_5184, li_10000, li_46656, li_65536, li_99999, li_1000000, ni_add, ni_mul, ni_sub, ni_ix, inb_t, ni_le_t, ni_le_f, ni_lt_t, ni_lt_f, ni_eq_t, ni_eq_f, ni_m1, ni_m1', ni_mn, ni_mn', Nat.add_sub_cancel, Nat.add_zero, zr_ne, zr_ni, zr_eq, gd_t, bd_s, if_true, if_false, Bool.not_true, Bool.not_false, ↓reduceIte, decide_false, decide_true]); (first | with_reducible refine Eq.trans gd_t ?_ | with_reducible refine Eq.trans bd_s ?_ | with_reducible refine Eq.trans bdp_s ?_ | with_reducible refine Eq.trans (if_pos trivial) ?_ | with_reducible refine Eq.trans (if_neg not_false) ?_ | with_reducible refine Eq.trans nmE ?_))));  (try simp (maxSteps := 1000000) (disch := omega) only [LA_ka hA, LA_p13 hA, LA_k13 hA, LA_n13 hA, LA_pE hA, LA_kE hA, LA_nE hA, er_ls, h2, h3, li_0, li_1, li_2, li_3, li_4, li_5, li_6, li_7, li_8, li_9, li_10, li_11, li_12, li_13, li_14, li_15, li_16, li_17, li_18, li_19, li_20, li_21, li_22, li_23, li_24, li_25, li_26, li_27, li_28, li_29, li_30, li_31, li_32, li_33, li_34, li_35, li_36, li_37, li_38, li_39, li_40, li_41, li_42, li_43, li_44, li_45, li_48, li_57, li_59, li_61, li_63, li_64, li_65, li_72, li_90, li_97, li_99, li_101, li_102, li_103, li_104, li_105, li_108, li_109, li_111, li_114, li_115, li_116, li_117, li_118, li_120, li_121, li_122, li_216, li_240, li_255, li_256, li_380, li_400, li_480, li_511, li_512, li_729, li_1000, li_5184, li_10000, li_46656, li_65536, li_99999, li_1000000, ni_add, ni_mul, ni_sub, ni_ix, inb_t, ni_le_t, ni_le_f, ni_lt_t, ni_lt_f, ni_eq_t, ni_eq_f, ni_m1, ni_m1', ni_mn, ni_mn', Nat.add_sub_cancel, Nat.add_zero, zr_ne, zr_ni, zr_eq, gd_t, bd_s, if_true, if_false, Bool.not_true, Bool.not_false, ↓reduceIte, decide_false, decide_true]))
  · rintro kk _ rfl
    exact if_pos (by decide)
theorem m_agm {Z : zT} {u : Nat → Nat} {J : Int32 → Option (Int32 × zT)} (hu : ∀ o, o < 27 → Z 51 (27 * 0 + o) = nI (u o)) (hb : ∀ o, u o < 1000000) : it1 (lX4_way_128 Z J) FU (nI 0) (nI 1) = J (nI (agm u 26)) := by
  refine it1_fr (Q := fun o => o = J (nI (agm u 26))) (N := 27) (i0 := 1) (fun k x => x = nI (agm u (k - 1))) ?_ ?_ (by omega) (FU_lt (by omega)) rfl
  · rintro kk k _ hk1 hk rfl
    obtain ⟨k, rfl⟩ : ∃ q, k = q + 1 := ⟨k - 1, by omega⟩
    have h1 := agm_le u k
    have h2 : Z 51 (k + 1) = nI (u (k + 1)) := by have := hu (k + 1) (by omega); rwa [show 27 * 0 + (k + 1) = k + 1 from by omega] at this
    have h3 : Z 51 (agm u k) = nI (u (agm u k)) := by have := hu (agm u k) (by omega); rwa [show 27 * 0 + agm u k = agm u k from by omega] at this
    have h4 := hb (k + 1)
    have h5 := hb (agm u k)
    refine ⟨_, ?_, rfl⟩
    unfold lX4_way_128
    rw [Nat.add_sub_cancel]
    show _ = kk (nI (if u (k + 1) < u (agm u k) then k + 1 else agm u k)) _
    generalize agm u k = g at h1 h3 h5 ⊢
    by_cases hc : u (k + 1) < u g
    · rw [if_pos hc]
      ((repeat (first | (with_reducible refine Eq.trans njE ?_; (try dsimp only)) | ((conv => lhs; arg 1; simp (maxSteps := 1000000) (disch := omega) only [h2, h3, li_0, li_1, li_2, li_3, li_4, li_5, li_6, li_7, li_8, li_9, li_10, li_11, li_12, li_13, li_14, li_15, li_16, li_17, li_18, li_19, li_20, li_21, li_22, li_23, li_24, li_25, li_26, li_27, li_28, li_29, li_30, li_31, li_32, li_33, li_34, li_35, li_36, li_37, li_38, li_39, li_40, li_41, li_42, li_43, li_44, li_45, li_48, li_57, li_59, li_61, li_63, li_64, li_65, li_72, li_90, li_97, li_99, li_101, li_102, li_103, li_104, li_105, li_108, li_109, li_111, li_114, li_115, li_116, li_117, li_118, li_120, li_121, li_122, li_216, li_240, li_255, li_256, li_380, li_400, li_480, li_511, li_512, li_729, li_1000, li_5184, li_10000, li_46656, li_65536, li_99999, li_1000000, ni_add, ni_mul, ni_sub, ni_ix, inb_t, ni_le_t, ni_le_f, ni_lt_t, ni_lt_f, ni_eq_t, ni_eq_f, ni_m1, ni_m1', ni_mn, ni_mn', Nat.add_sub_cancel, Nat.add_zero, zr_ne, zr_ni, zr_eq, gd_t, bd_s, if_true, if_false, Bool.not_true, Bool.not_false, ↓reduceIte, decide_false, decide_true]); (first | with_reducible refine Eq.trans gd_t ?_ | with_reducible refine Eq.trans bd_s ?_ | with_reducible refine Eq.trans bdp_s ?_ | with_reducible refine Eq.trans (if_pos trivial) ?_ | with_reducible refine Eq.trans (if_neg not_false) ?_ | with_reducible refine Eq.trans nmE ?_))));  (try simp (maxSteps := 1000000) (disch := omega) only [h2, h3, li_0, li_1, li_2, li_3, li_4, li_5, li_6, li_7, li_8, li_9, li_10, li_11, li_12, li_13, li_14, li_15, li_16, li_17, li_18, li_19, li_20, li_21, li_22, li_23, li_24, li_25, li_26, li_27, li_28, li_29, li_30, li_31, li_32, li_33, li_34, li_35, li_36, li_37, li_38, li_39, li_40, li_41, li_42, li_43, li_44, li_45, li_48, li_57, li_59, li_61, li_63, li_64, li_65, li_72, li_90, li_97, li_99, li_101, li_102, li_103, li_104, li_105, li_108, li_109, li_111, li_114, li_115, li_116, li_117, li_118, li_120, li_121, li_122, li_216, li_240, li_255, li_256, li_380, li_400, li_480, li_511, li_512, li_729, li_1000, li_5184, li_10000, li_46656, li_65536, li_99999, li_1000000, ni_add, ni_mul, ni_sub, ni_ix, inb_t, ni_le_t, ni_le_f, ni_lt_t, ni_lt_f, ni_eq_t, ni_eq_f, ni_m1, ni_m1', ni_mn, ni_mn', Nat.add_sub_cancel, Nat.add_zero, zr_ne, zr_ni, zr_eq, gd_t, bd_s, if_true, if_false, Bool.not_true, Bool.not_false, ↓reduceIte, decide_false, decide_true]))
    · rw [if_neg hc]
      ((repeat (first | (with_reducible refine Eq.trans njE ?_; (try dsimp only)) | ((conv => lhs; arg 1; simp (maxSteps := 1000000) (disch := omega) only [h2, h3, li_0, li_1, li_2, li_3, li_4, li_5, li_6, li_7, li_8, li_9, li_10, li_11, li_12, li_13, li_14, li_15, li_16, li_17, li_18, li_19, li_20, li_21, li_22, li_23, li_24, li_25, li_26, li_27, li_28, li_29, li_30, li_31, li_32, li_33, li_34, li_35, li_36, li_37, li_38, li_39, li_40, li_41, li_42, li_43, li_44, li_45, li_48, li_57, li_59, li_61, li_63, li_64, li_65, li_72, li_90, li_97, li_99, li_101, li_102, li_103, li_104, li_105, li_108, li_109, li_111, li_114, li_115, li_116, li_117, li_118, li_120, li_121, li_122, li_216, li_240, li_255, li_256, li_380, li_400, li_480, li_511, li_512, li_729, li_1000, li_5184, li_10000, li_46656, li_65536, li_99999, li_1000000, ni_add, ni_mul, ni_sub, ni_ix, inb_t, ni_le_t, ni_le_f, ni_lt_t, ni_lt_f, ni_eq_t, ni_eq_f, ni_m1, ni_m1', ni_mn, ni_mn', Nat.add_sub_cancel, Nat.add_zero, zr_ne, zr_ni, zr_eq, gd_t, bd_s, if_true, if_false, Bool.not_true, Bool.not_false, ↓reduceIte, decide_false, decide_true]); (first | with_reducible refine Eq.trans gd_t ?_ | with_reducible refine Eq.trans bd_s ?_ | with_reducible refine Eq.trans bdp_s ?_ | with_reducible refine Eq.trans (if_pos trivial) ?_ | with_reducible refine Eq.trans (if_neg not_false) ?_ | with_reducible refine Eq.trans nmE ?_))));  (try simp (maxSteps := 1000000) (disch := omega) only [h2, h3, li_0, li_1, li_2, li_3, li_4, li_5, li_6, li_7, li_8, li_9, li_10, li_11, li_12, li_13, li_14, li_15, li_16, li_17, li_18, li_19, li_20, li_21, li_22, li_23, li_24, li_25, li_26, li_27, li_28, li_29, li_30, li_31, li_32, li_33, li_34, li_35, li_36, li_37, li_38, li_39, li_40, li_41, li_42, li_43, li_44, li_45, li_48, li_57, li_59, li_61, li_63, li_64, li_65, li_72, li_90, li_97, li_99, li_101, li_102, li_103, li_104, li_105, li_108, li_109, li_111, li_114, li_115, li_116, li_117, li_118, li_120, li_121, li_122, li_216, li_240, li_255, li_256, li_380, li_400, li_480, li_511, li_512, li_729, li_1000, li_5184, li_10000, li_46656, li_65536, li_99999, li_1000000, ni_add, ni_mul, ni_sub, ni_ix, inb_t, ni_le_t, ni_le_f, ni_lt_t, ni_lt_f, ni_eq_t, ni_eq_f, ni_m1, ni_m1', ni_mn, ni_mn', Nat.add_sub_cancel, Nat.add_zero, zr_ne, zr_ni, zr_eq, gd_t, bd_s, if_true, if_false, Bool.not_true, Bool.not_false, ↓reduceIte, decide_false, decide_true]))
  · rintro kk _ rfl
    exact if_pos (by decide)
