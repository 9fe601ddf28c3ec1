/-! LAYER 2: rings: OneEye's side -/
theorem it0_ue {ρ : Type} {b : (Int32 → Option ρ) → Int32 → Option ρ} {Q : Option ρ → Prop} {N : Nat} (Inv : Nat → Prop) (hs : ∀ k i, i < N → Inv i → Q (b k (nI i)) ∨ (b k (nI i) = k (nI (i + 1)) ∧ Inv (i + 1))) (he : ∀ k, Inv N → Q (b k (nI N))) {F : Nat} (hF : N < F) (h0 : Inv 0) : Q (it0 b F (nI 0)) := by
  refine it0_m (fun m x => ∃ i, x = nI i ∧ i + m = N ∧ Inv i) ?_ F N (nI 0) hF ⟨0, rfl, by omega, h0⟩
  rintro k m x ⟨i, rfl, hm, hi⟩
  rcases Nat.eq_zero_or_pos m with rfl | hp
  · obtain rfl : i = N := by omega
    exact Or.inl (he k hi)
  · rcases hs k i (by omega) hi with h | ⟨h1, h2⟩
    · exact Or.inl h
    · exact Or.inr ⟨m - 1, nI (i + 1), by omega, h1, i + 1, rfl, by omega, h2⟩
/-- would lend -/
def Ln (Z : zT) (t x y : Nat) : Bool := decide (Z 58 (9 * t + 3 * x + y) = nI 1)
theorem Ln_k {Z : zT} (hB : MB Z) (t x y : Nat) : (Ln Z t x y = true ∧ Z 58 (9 * t + 3 * x + y) = nI 1) ∨ (Ln Z t x y = false ∧ Z 58 (9 * t + 3 * x + y) = nI 0) := by
  obtain ⟨k, hk, e⟩ := MB_at hB 58 (9 * t + 3 * x + y) (by decide)
  have hk : k ≤ 1 := hk
  rcases (show k = 0 ∨ k = 1 by omega) with rfl | rfl
  · exact Or.inr ⟨decide_eq_false (by rw [e]; decide), e⟩
  · exact Or.inl ⟨decide_eq_true e, e⟩
/-- a row goes on and closes -/
def clo (L : Nat → Nat → Nat → Bool) (m f fl set : Nat) : Nat → Nat → Nat → Prop
  | 0, _, _ => False
  | k + 1, lent, used => (used = set ∧ L f fl lent = true) ∨ ∃ t, t < m ∧ set.testBit t = true ∧ used.testBit t = false ∧ ∃ x, x < 3 ∧ L t x lent = true ∧ clo L m f fl set k x (used ||| 2 ^ t)
def Clo (L : Nat → Nat → Nat → Bool) (m f fl set lent used : Nat) : Prop := ∃ d, clo L m f fl set d lent used
theorem Clo_e {L : Nat → Nat → Nat → Bool} {m f fl set lent used : Nat} : Clo L m f fl set lent used ↔ (used = set ∧ L f fl lent = true) ∨ ∃ t, t < m ∧ set.testBit t = true ∧ used.testBit t = false ∧ ∃ x, x < 3 ∧ L t x lent = true ∧ Clo L m f fl set x (used ||| 2 ^ t) := by
  constructor
  · rintro ⟨d, h⟩
    cases d with
    | zero => exact absurd h id
    | succ d =>
      rcases h with h | ⟨t, h1, h2, h3, x, h4, h5, h6⟩
      · exact Or.inl h
      · exact Or.inr ⟨t, h1, h2, h3, x, h4, h5, d, h6⟩
  · rintro (h | ⟨t, h1, h2, h3, x, h4, h5, d, h6⟩)
    · exact ⟨1, Or.inl h⟩
    · exact ⟨d + 1, Or.inr ⟨t, h1, h2, h3, x, h4, h5, h6⟩⟩
theorem more_k : ∀ u : Fin 16, ∀ t : Fin 4, u.1.testBit t.1 = false → pcn 4 (u.1 ||| 2 ^ t.1) = pcn 4 u.1 + 1 ∧ u.1 ||| 2 ^ t.1 < 16 ∧ u.1 ||| 2 ^ t.1 = u.1 + 2 ^ t.1 := by decide +kernel
theorem e_cl67 {a v w n m nn nl nw : Nat} {S : sT} {P : pT} {Y I Z : zT} {f fl lent used set t : Nat} {B : Option Int32} {rc : Nat → Int32 → Int32 → Int32 → Int32 → Int32 → Option Int32} (hR : Rel a v w S P Y I n Z m nn nl nw) (ht : t < m) (hl : lent < 3)
    (hrc : ∀ x, x < 3 → (Clo (Ln Z) m f fl set x (used ||| 2 ^ t) → rc a (nI f) (nI fl) (nI x) (nI (used ||| 2 ^ t)) (nI set) = some (nI 1)) ∧ (¬ Clo (Ln Z) m f fl set x (used ||| 2 ^ t) → rc a (nI f) (nI fl) (nI x) (nI (used ||| 2 ^ t)) (nI set) = some (nI 0))) :
    ((∃ x, x < 3 ∧ Ln Z t x lent = true ∧ Clo (Ln Z) m f fl set x (used ||| 2 ^ t)) → it0 (lX0_closes_67 S P (enc a Y I) a (nI f) (nI fl) (nI lent) (nI used) (nI set) rc (nI t) v B) FU (nI 0) = some (nI 1)) ∧ ((¬ ∃ x, x < 3 ∧ Ln Z t x lent = true ∧ Clo (Ln Z) m f fl set x (used ||| 2 ^ t)) → it0 (lX0_closes_67 S P (enc a Y I) a (nI f) (nI fl) (nI lent) (nI used) (nI set) rc (nI t) v B) FU (nI 0) = B) := by
  obtain ⟨⟨hv, hw, hA, h4, h5, hL, hM⟩, hn, hX, hN, hB, hC, hP, hK⟩ := id hR
  have hm4 : m ≤ 4 := hN.2.1.1
  have hn20 : nn ≤ 20 := hN.2.1.2.1
  have hl99 : nl ≤ 99 := hN.2.1.2.2.1
  have hw9 : nw ≤ 9 := hN.2.1.2.2.2
  refine it0_ue (Q := fun o => ((∃ x, x < 3 ∧ Ln Z t x lent = true ∧ Clo (Ln Z) m f fl set x (used ||| 2 ^ t)) → o = some (nI 1)) ∧ ((¬ ∃ x, x < 3 ∧ Ln Z t x lent = true ∧ Clo (Ln Z) m f fl set x (used ||| 2 ^ t)) → o = B)) (N := 3) (fun k => ¬ ∃ x, x < k ∧ Ln Z t x lent = true ∧ Clo (Ln Z) m f fl set x (used ||| 2 ^ t)) ?_ ?_ (FU_lt (by omega)) (fun ⟨x, h, _⟩ => absurd h (Nat.not_lt_zero _))
  · intro kk k hk hno
    have ht4 : t < 4 := by omega
    have e58 : Y 58 (9 * t + 3 * k + lent) = Z 58 (9 * t + 3 * k + lent) := VN_58 hN (by omega)
    have ejs : js (nI 1) (nI t) = nI (2 ^ t) := js_2 (by omega)
    have hnx : (Ln Z t k lent = true → ¬ Clo (Ln Z) m f fl set k (used ||| 2 ^ t)) → ¬ ∃ x, x < k + 1 ∧ Ln Z t x lent = true ∧ Clo (Ln Z) m f fl set x (used ||| 2 ^ t) := by
      rintro g ⟨x, h1, h2, h3⟩
      rcases Nat.lt_or_ge x k with c | c
      · exact hno ⟨x, c, h2, h3⟩
      · obtain rfl : x = k := by omega
        exact g h2 h3
    unfold lX0_closes_67
    rcases Ln_k hB t k lent with ⟨l1, l2⟩ | ⟨l1, l2⟩
    · rw [l2] at e58
      by_cases hc : Clo (Ln Z) m f fl set k (used ||| 2 ^ t)
      · refine Or.inl ⟨fun _ => ?_, fun g => absurd ⟨k, hk, l1, hc⟩ g⟩
        have er := (hrc k hk).1 hc
        ((repeat (first | (with_reducible refine Eq.trans njE ?_; (try dsimp only)) | ((conv => lhs; arg 1; simp (maxSteps := 1000000) (disch := omega) only [LV_kv hL, LV_p10 hL, LV_k10 hL, LV_n10 hL, LV_pL hL, LV_kL hL, LV_nL hL, LV_pL3 hL, LV_kL3 hL, LV_nL3 hL, er_le hv, e58, ejs, ni_or, er, li_0, li_1, li_2, li_3, li_4, li_5, li_6, li_7, li_8, li_9, li_10, li_11, li_12, li_13, li_14, li_15, li_16, li_17, li_18, li_19, li_20, li_21, li_22, li_23, li_24, li_25, li_26, li_27, li_28, li_29, li_30, li_31, li_32, li_33, li_34, li_35, li_36, li_37, li_38, li_39, li_40, li_41, li_42, li_43, li_44, li_45, li_48, li_57, li_59, li_61, li_63, li_64, li_65, li_72, li_90, li_97, li_99, li_101, li_102, li_103, li_104, li_105, li_108, li_109, li_111, li_114, li_115, li_116, li_117, li_118, li_120, li_121, li_122, li_216, li_240, li_255, li_256, li_380, li_400, li_480, li_511, li_512, li_729, li_1000, li_5184, li_10000, li_46656, li_65536, li_99999, li_1000000, ni_add, ni_mul, ni_sub, ni_ix, inb_t, ni_le_t, ni_le_f, ni_lt_t, ni_lt_f, ni_eq_t, ni_eq_f, ni_m1, ni_m1', ni_mn, ni_mn', Nat.add_sub_cancel, Nat.add_zero, zr_ne, zr_ni, zr_eq, gd_t, bd_s, if_true, if_false, Bool.not_true, Bool.not_false, ↓reduceIte, decide_false, decide_true]); (first | with_reducible refine Eq.trans gd_t ?_ | with_reducible refine Eq.trans bd_s ?_ | with_reducible refine Eq.trans bdp_s ?_ | with_reducible refine Eq.trans (if_pos trivial) ?_ | with_reducible refine Eq.trans (if_neg not_false) ?_ | with_reducible refine Eq.trans nmE ?_))));  (try simp (maxSteps := 1000000) (disch := omega) only [LV_kv hL, LV_p10 hL, LV_k10 hL, LV_n10 hL, LV_pL hL, LV_kL hL, LV_nL hL, LV_pL3 hL, LV_kL3 hL, LV_nL3 hL, er_le hv, e58, ejs, ni_or, er, li_0, li_1, li_2, li_3, li_4, li_5, li_6, li_7, li_8, li_9, li_10, li_11, li_12, li_13, li_14, li_15, li_16, li_17, li_18, li_19, li_20, li_21, li_22, li_23, li_24, li_25, li_26, li_27, li_28, li_29, li_30, li_31, li_32, li_33, li_34, li_35, li_36, li_37, li_38, li_39, li_40, li_41, li_42, li_43, li_44, li_45, li_48, li_57, li_59, li_61, li_63, li_64, li_65, li_72, li_90, li_97, li_99, li_101, li_102, li_103, li_104, li_105, li_108, li_109, li_111, li_114, li_115, li_116, li_117, li_118, li_120, li_121, li_122, li_216, li_240, li_255, li_256, li_380, li_400, li_480, li_511, li_512, li_729, li_1000, li_5184, li_10000, li_46656, li_65536, li_99999, li_1000000, ni_add, ni_mul, ni_sub, ni_ix, inb_t, ni_le_t, ni_le_f, ni_lt_t, ni_lt_f, ni_eq_t, ni_eq_f, ni_m1, ni_m1', ni_mn, ni_mn', Nat.add_sub_cancel, Nat.add_zero, zr_ne, zr_ni, zr_eq, gd_t, bd_s, if_true, if_false, Bool.not_true, Bool.not_false, ↓reduceIte, decide_false, decide_true]))
      · refine Or.inr ⟨?_, hnx fun _ => hc⟩
        have er := (hrc k hk).2 hc
        ((repeat (first | (with_reducible refine Eq.trans njE ?_; (try dsimp only)) | ((conv => lhs; arg 1; simp (maxSteps := 1000000) (disch := omega) only [LV_kv hL, LV_p10 hL, LV_k10 hL, LV_n10 hL, LV_pL hL, LV_kL hL, LV_nL hL, LV_pL3 hL, LV_kL3 hL, LV_nL3 hL, er_le hv, e58, ejs, ni_or, er, li_0, li_1, li_2, li_3, li_4, li_5, li_6, li_7, li_8, li_9, li_10, li_11, li_12, li_13, li_14, li_15, li_16, li_17, li_18, li_19, li_20, li_21, li_22, li_23, li_24, li_25, li_26, li_27, li_28, li_29, li_30, li_31, li_32, li_33, li_34, li_35, li_36, li_37, li_38, li_39, li_40, li_41, li_42, li_43, li_44, li_45, li_48, li_57, li_59, li_61, li_63, li_64, li_65, li_72, li_90, li_97, li_99, li_101, li_102, li_103, li_104, li_105, li_108, li_109, li_111, li_114, li_115, li_116, li_117, li_118, li_120, li_121, li_122, li_216, li_240, li_255, li_256, li_380, li_400, li_480, li_511, li_512, li_729, li_1000, li_5184, li_10000, li_46656, li_65536, li_99999, li_1000000, ni_add, ni_mul, ni_sub, ni_ix, inb_t, ni_le_t, ni_le_f, ni_lt_t, ni_lt_f, ni_eq_t, ni_eq_f, ni_m1, ni_m1', ni_mn, ni_mn', Nat.add_sub_cancel, Nat.add_zero, zr_ne, zr_ni, zr_eq, gd_t, bd_s, if_true, if_false, Bool.not_true, Bool.not_false, ↓reduceIte, decide_false, decide_true]); (first | with_reducible refine Eq.trans gd_t ?_ | with_reducible refine Eq.trans bd_s ?_ | with_reducible refine Eq.trans bdp_s ?_ | with_reducible refine Eq.trans (if_pos trivial) ?_ | with_reducible refine Eq.trans (if_neg not_false) ?_ | with_reducible refine Eq.trans nmE ?_))));  (try simp (maxSteps := 1000000) (disch := omega) only [LV_kv hL, LV_p10 hL, LV_k10 hL, LV_n10 hL, LV_pL hL, LV_kL hL, LV_nL hL, LV_pL3 hL, LV_kL3 hL, LV_nL3 hL, er_le hv, e58, ejs, ni_or, er, li_0, li_1, li_2, li_3, li_4, li_5, li_6, li_7, li_8, li_9, li_10, li_11, li_12, li_13, li_14, li_15, li_16, li_17, li_18, li_19, li_20, li_21, li_22, li_23, li_24, li_25, li_26, li_27, li_28, li_29, li_30, li_31, li_32, li_33, li_34, li_35, li_36, li_37, li_38, li_39, li_40, li_41, li_42, li_43, li_44, li_45, li_48, li_57, li_59, li_61, li_63, li_64, li_65, li_72, li_90, li_97, li_99, li_101, li_102, li_103, li_104, li_105, li_108, li_109, li_111, li_114, li_115, li_116, li_117, li_118, li_120, li_121, li_122, li_216, li_240, li_255, li_256, li_380, li_400, li_480, li_511, li_512, li_729, li_1000, li_5184, li_10000, li_46656, li_65536, li_99999, li_1000000, ni_add, ni_mul, ni_sub, ni_ix, inb_t, ni_le_t, ni_le_f, ni_lt_t, ni_lt_f, ni_eq_t, ni_eq_f, ni_m1, ni_m1', ni_mn, ni_mn', Nat.add_sub_cancel, Nat.add_zero, zr_ne, zr_ni, zr_eq, gd_t, bd_s, if_true, if_false, Bool.not_true, Bool.not_false, ↓reduceIte, decide_false, decide_true]))
    · rw [l2] at e58
      refine Or.inr ⟨?_, hnx fun g => absurd (l1.symm.trans g) (by decide)⟩
      ((repeat (first | (with_reducible refine Eq.trans njE ?_; (try dsimp only)) | ((conv => lhs; arg 1; simp (maxSteps := 1000000) (disch := omega) only [LV_kv hL, LV_p10 hL, LV_k10 hL, LV_n10 hL, LV_pL hL, LV_kL hL, LV_nL hL, LV_pL3 hL, LV_kL3 hL, LV_nL3 hL, er_le hv, e58, li_0, li_1, li_2, li_3, li_4, li_5, li_6, li_7, li_8, li_9, li_10, li_11, li_12, li_13, li_14, li_15, li_16, li_17, li_18, li_19, li_20, li_21, li_22, li_23, li_24, li_25, li_26, li_27, li_28, li_29, li_30, li_31, li_32, li_33, li_34, li_35, li_36, li_37, li_38, li_39, li_40, li_41, li_42, li_43, li_44, li_45, li_48, li_57, li_59, li_61, li_63, li_64, li_65, li_72, li_90, li_97, li_99, li_101, li_102, li_103, li_104, li_105, li_108, li_109, li_111, li_114, li_115, li_116, li_117, li_118, li_120, li_121, li_122, li_216, li_240, li_255, li_256, li_380, li_400, li_480, li_511, li_512, li_729, li_1000, li_5184, li_10000, li_46656, li_65536, li_99999, li_1000000, ni_add, ni_mul, ni_sub, ni_ix, inb_t, ni_le_t, ni_le_f, ni_lt_t, ni_lt_f, ni_eq_t, ni_eq_f, ni_m1, ni_m1', ni_mn, ni_mn', Nat.add_sub_cancel, Nat.add_zero, zr_ne, zr_ni, zr_eq, gd_t, bd_s, if_true, if_false, Bool.not_true, Bool.not_false, ↓reduceIte, decide_false, decide_true]); (first | with_reducible refine Eq.trans gd_t ?_ | with_reducible refine Eq.trans bd_s ?_ | with_reducible refine Eq.trans bdp_s ?_ | with_reducible refine Eq.trans (if_pos trivial) ?_ | with_reducible refine Eq.trans (if_neg not_false) ?_ | with_reducible refine Eq.trans nmE ?_))));  (try simp (maxSteps := 1000000) (disch := omega) only [LV_kv hL, LV_p10 hL, LV_k10 hL, LV_n10 hL, LV_pL hL, LV_kL hL, LV_nL hL, LV_pL3 hL, LV_kL3 hL, LV_nL3 hL, er_le hv, e58, li_0, li_1, li_2, li_3, li_4, li_5, li_6, li_7, li_8, li_9, li_10, li_11, li_12, li_13, li_14, li_15, li_16, li_17, li_18, li_19, li_20, li_21, li_22, li_23, li_24, li_25, li_26, li_27, li_28, li_29, li_30, li_31, li_32, li_33, li_34, li_35, li_36, li_37, li_38, li_39, li_40, li_41, li_42, li_43, li_44, li_45, li_48, li_57, li_59, li_61, li_63, li_64, li_65, li_72, li_90, li_97, li_99, li_101, li_102, li_103, li_104, li_105, li_108, li_109, li_111, li_114, li_115, li_116, li_117, li_118, li_120, li_121, li_122, li_216, li_240, li_255, li_256, li_380, li_400, li_480, li_511, li_512, li_729, li_1000, li_5184, li_10000, li_46656, li_65536, li_99999, li_1000000, ni_add, ni_mul, ni_sub, ni_ix, inb_t, ni_le_t, ni_le_f, ni_lt_t, ni_lt_f, ni_eq_t, ni_eq_f, ni_m1, ni_m1', ni_mn, ni_mn', Nat.add_sub_cancel, Nat.add_zero, zr_ne, zr_ni, zr_eq, gd_t, bd_s, if_true, if_false, Bool.not_true, Bool.not_false, ↓reduceIte, decide_false, decide_true]))
  · intro kk hno
    exact ⟨fun g => absurd g hno, fun _ => if_pos (by decide)⟩
theorem e_cl28 {a v w n m nn nl nw : Nat} {S : sT} {P : pT} {Y I Z : zT} {f fl lent used set : Nat} {rc : Nat → Int32 → Int32 → Int32 → Int32 → Int32 → Option Int32} (hR : Rel a v w S P Y I n Z m nn nl nw) (hl : lent < 3) (hu : used < 16) (hs : set < 16)
    (hrc : ∀ t, t < m → used.testBit t = false → ∀ x, x < 3 → (Clo (Ln Z) m f fl set x (used ||| 2 ^ t) → rc a (nI f) (nI fl) (nI x) (nI (used ||| 2 ^ t)) (nI set) = some (nI 1)) ∧ (¬ Clo (Ln Z) m f fl set x (used ||| 2 ^ t) → rc a (nI f) (nI fl) (nI x) (nI (used ||| 2 ^ t)) (nI set) = some (nI 0))) :
    ((∃ t, t < m ∧ set.testBit t = true ∧ used.testBit t = false ∧ ∃ x, x < 3 ∧ Ln Z t x lent = true ∧ Clo (Ln Z) m f fl set x (used ||| 2 ^ t)) → it0 (lX0_closes_28 S P (enc a Y I) a (nI f) (nI fl) (nI lent) (nI used) (nI set) rc) FU (nI 0) = some (nI 1)) ∧ ((¬ ∃ t, t < m ∧ set.testBit t = true ∧ used.testBit t = false ∧ ∃ x, x < 3 ∧ Ln Z t x lent = true ∧ Clo (Ln Z) m f fl set x (used ||| 2 ^ t)) → it0 (lX0_closes_28 S P (enc a Y I) a (nI f) (nI fl) (nI lent) (nI used) (nI set) rc) FU (nI 0) = some (nI 0)) := by
  obtain ⟨⟨hv, hw, hA, h4, h5, hL, hM⟩, hn, hX, hN, hB, hC, hP, hK⟩ := id hR
  have hm4 : m ≤ 4 := hN.2.1.1
  have hn20 : nn ≤ 20 := hN.2.1.2.1
  have hl99 : nl ≤ 99 := hN.2.1.2.2.1
  have hw9 : nw ≤ 9 := hN.2.1.2.2.2
  have e2 : enc a Y I v 15 = nI m := by rw [er_s15 hv, VN_2 hN, VN_m hN]
  refine it0_ue (Q := fun o => ((∃ t, t < m ∧ set.testBit t = true ∧ used.testBit t = false ∧ ∃ x, x < 3 ∧ Ln Z t x lent = true ∧ Clo (Ln Z) m f fl set x (used ||| 2 ^ t)) → o = some (nI 1)) ∧ ((¬ ∃ t, t < m ∧ set.testBit t = true ∧ used.testBit t = false ∧ ∃ x, x < 3 ∧ Ln Z t x lent = true ∧ Clo (Ln Z) m f fl set x (used ||| 2 ^ t)) → o = some (nI 0))) (N := m) (fun k => ¬ ∃ t, t < k ∧ set.testBit t = true ∧ used.testBit t = false ∧ ∃ x, x < 3 ∧ Ln Z t x lent = true ∧ Clo (Ln Z) m f fl set x (used ||| 2 ^ t)) ?_ ?_ (FU_lt (by omega)) (fun ⟨x, h, _⟩ => absurd h (Nat.not_lt_zero _))
  · intro kk k hk hno
    have hnx : (set.testBit k = true → used.testBit k = false → ¬ ∃ x, x < 3 ∧ Ln Z k x lent = true ∧ Clo (Ln Z) m f fl set x (used ||| 2 ^ k)) → ¬ ∃ t, t < k + 1 ∧ set.testBit t = true ∧ used.testBit t = false ∧ ∃ x, x < 3 ∧ Ln Z t x lent = true ∧ Clo (Ln Z) m f fl set x (used ||| 2 ^ t) := by
      rintro g ⟨t, h1, h2, h3, h4⟩
      rcases Nat.lt_or_ge t k with c | c
      · exact hno ⟨t, c, h2, h3, h4⟩
      · obtain rfl : t = k := by omega
        exact g h2 h3 h4
    have t1 := tb_i (a := set) (k := k) (by omega) (by omega)
    have t2 := tb_i (a := used) (k := k) (by omega) (by omega)
    have hlt : ¬ enc a Y I v 15 ≤ nI k := by rw [e2]; exact nI_ge hk (by omega)
    have hk1 : nI k + (1 : Int32) = nI (k + 1) := nI_1 k
    unfold lX0_closes_28
    rw [gd_of (LA_ka hA), h4, bd_s, gd_of (LV_kv hL), if_neg hlt, njE, nmE, hk1]
    cases c1 : set.testBit k
    · refine Or.inr ⟨?_, hnx fun g => absurd (c1.symm.trans g) (by decide)⟩
      rw [c1, if_neg (by decide)] at t1
      exact if_pos (by show jsr (nI set) (nI k) &&& nI 1 = (0 : Int32); rw [t1]; rfl)
    · rw [c1, if_pos rfl] at t1
      rw [if_neg (by show ¬ jsr (nI set) (nI k) &&& nI 1 = (0 : Int32); rw [t1]; decide)]
      cases c2 : used.testBit k
      · rw [c2, if_neg (by decide)] at t2
        rw [if_neg (by show ¬ jsr (nI used) (nI k) &&& nI 1 = (1 : Int32); rw [t2]; decide), njE]
        have hi := e_cl67 (B := kk (nI (k + 1))) hR hk hl (hrc k hk c2)
        by_cases hx : ∃ x, x < 3 ∧ Ln Z k x lent = true ∧ Clo (Ln Z) m f fl set x (used ||| 2 ^ k)
        · exact Or.inl ⟨fun _ => hi.1 hx, fun g => absurd ⟨k, hk, c1, c2, hx⟩ g⟩
        · exact Or.inr ⟨hi.2 hx, hnx fun _ _ => hx⟩
      · refine Or.inr ⟨?_, hnx fun _ g => absurd (c2.symm.trans g) (by decide)⟩
        rw [c2, if_pos rfl] at t2
        exact if_pos (by show jsr (nI used) (nI k) &&& nI 1 = (1 : Int32); rw [t2]; rfl)
  · intro kk hno
    refine ⟨fun g => absurd g hno, fun _ => ?_⟩
    unfold lX0_closes_28
    rw [gd_of (LA_ka hA), h4, bd_s, gd_of (LV_kv hL), if_pos (by rw [e2]; exact nI_le (Nat.le_refl _) (by omega))]
    rfl
theorem it5_s {ρ σ A B C D E : Type} {b : (σ → A → B → C → D → E → Option ρ) → σ → A → B → C → D → E → Option ρ} {n : Nat} {z : σ} {x : A} {y : B} {w : C} {v : D} {u : E} : it5 b (n + 1) z x y w v u = b (it5 b n) z x y w v u := rfl
theorem e_closes {a v w n m nn nl nw : Nat} {S : sT} {P : pT} {Y I Z : zT} {f fl set : Nat} (hR : Rel a v w S P Y I n Z m nn nl nw) (hf : f < 4) (hfl : fl < 3) (hs : set < 16) : ∀ d lent used, lent < 3 → used < 16 → 5 ≤ d + pcn 4 used →
    (Clo (Ln Z) m f fl set lent used → fX0_closes d S P (enc a Y I) a (nI f) (nI fl) (nI lent) (nI used) (nI set) = some (nI 1)) ∧ (¬ Clo (Ln Z) m f fl set lent used → fX0_closes d S P (enc a Y I) a (nI f) (nI fl) (nI lent) (nI used) (nI set) = some (nI 0)) := by
  obtain ⟨⟨hv, hw, hA, h4, h5, hL, hM⟩, hn, hX, hN, hB, hC, hP, hK⟩ := id hR
  have hm4 : m ≤ 4 := hN.2.1.1
  have hn20 : nn ≤ 20 := hN.2.1.2.1
  have hl99 : nl ≤ 99 := hN.2.1.2.2.1
  have hw9 : nw ≤ 9 := hN.2.1.2.2.2
  intro d
  induction d with
  | zero =>
    intro lent used _ _ h
    have := pcn_le 4 used
    omega
  | succ d ih =>
    intro lent used hl hu hd
    have h28 := e_cl28 (f := f) (fl := fl) (lent := lent) (used := used) (set := set) (rc := it5 (bX0_closes S P (enc a Y I)) d) hR hl hu hs (fun t ht hb x hx => by
      obtain ⟨g1, g2, g3⟩ := more_k ⟨used, hu⟩ ⟨t, by omega⟩ hb
      have g1 : pcn 4 (used ||| 2 ^ t) = pcn 4 used + 1 := g1
      exact ih x (used ||| 2 ^ t) hx g2 (by omega))
    have e58 : Y 58 (9 * f + 3 * fl + lent) = Z 58 (9 * f + 3 * fl + lent) := VN_58 hN (by omega)
    rw [Clo_e]
    unfold fX0_closes
    rw [it5_s]
    unfold bX0_closes
    rw [njE, njE]
    by_cases hus : used = set
    · rw [if_pos (show nI used = nI set from congrArg nI hus)]
      rcases Ln_k hB f fl lent with ⟨l1, l2⟩ | ⟨l1, l2⟩
      · rw [l2] at e58
        refine ⟨fun _ => ?_, fun g => absurd (Or.inl ⟨hus, l1⟩) g⟩
        ((repeat (first | (with_reducible refine Eq.trans njE ?_; (try dsimp only)) | ((conv => lhs; arg 1; simp (maxSteps := 1000000) (disch := omega) only [LA_ka hA, h4, LV_kv hL, LV_p10 hL, LV_k10 hL, LV_n10 hL, LV_pL hL, LV_kL hL, LV_nL hL, LV_pL3 hL, LV_kL3 hL, LV_nL3 hL, er_le hv, e58, li_0, li_1, li_2, li_3, li_4, li_5, li_6, li_7, li_8, li_9, li_10, li_11, li_12, li_13, li_14, li_15, li_16, li_17, li_18, li_19, li_20, li_21, li_22, li_23, li_24, li_25, li_26, li_27, li_28, li_29, li_30, li_31, li_32, li_33, li_34, li_35, li_36, li_37, li_38, li_39, li_40, li_41, li_42, li_43, li_44, li_45, li_48, li_57, li_59, li_61, li_63, li_64, li_65, li_72, li_90, li_97, li_99, li_101, li_102, li_103, li_104, li_105, li_108, li_109, li_111, li_114, li_115, li_116, li_117, li_118, li_120, li_121, li_122, li_216, li_240, li_255, li_256, li_380, li_400, li_480, li_511, li_512, li_729, li_1000, li_5184, li_10000, li_46656, li_65536, li_99999, li_1000000, ni_add, ni_mul, ni_sub, ni_ix, inb_t, ni_le_t, ni_le_f, ni_lt_t, ni_lt_f, ni_eq_t, ni_eq_f, ni_m1, ni_m1', ni_mn, ni_mn', Nat.add_sub_cancel, Nat.add_zero, zr_ne, zr_ni, zr_eq, gd_t, bd_s, if_true, if_false, Bool.not_true, Bool.not_false, ↓reduceIte, decide_false, decide_true]); (first | with_reducible refine Eq.trans gd_t ?_ | with_reducible refine Eq.trans bd_s ?_ | with_reducible refine Eq.trans bdp_s ?_ | with_reducible refine Eq.trans (if_pos trivial) ?_ | with_reducible refine Eq.trans (if_neg not_false) ?_ | with_reducible refine Eq.trans nmE ?_))));  (try simp (maxSteps := 1000000) (disch := omega) only [LA_ka hA, h4, LV_kv hL, LV_p10 hL, LV_k10 hL, LV_n10 hL, LV_pL hL, LV_kL hL, LV_nL hL, LV_pL3 hL, LV_kL3 hL, LV_nL3 hL, er_le hv, e58, li_0, li_1, li_2, li_3, li_4, li_5, li_6, li_7, li_8, li_9, li_10, li_11, li_12, li_13, li_14, li_15, li_16, li_17, li_18, li_19, li_20, li_21, li_22, li_23, li_24, li_25, li_26, li_27, li_28, li_29, li_30, li_31, li_32, li_33, li_34, li_35, li_36, li_37, li_38, li_39, li_40, li_41, li_42, li_43, li_44, li_45, li_48, li_57, li_59, li_61, li_63, li_64, li_65, li_72, li_90, li_97, li_99, li_101, li_102, li_103, li_104, li_105, li_108, li_109, li_111, li_114, li_115, li_116, li_117, li_118, li_120, li_121, li_122, li_216, li_240, li_255, li_256, li_380, li_400, li_480, li_511, li_512, li_729, li_1000, li_5184, li_10000, li_46656, li_65536, li_99999, li_1000000, ni_add, ni_mul, ni_sub, ni_ix, inb_t, ni_le_t, ni_le_f, ni_lt_t, ni_lt_f, ni_eq_t, ni_eq_f, ni_m1, ni_m1', ni_mn, ni_mn', Nat.add_sub_cancel, Nat.add_zero, zr_ne, zr_ni, zr_eq, gd_t, bd_s, if_true, if_false, Bool.not_true, Bool.not_false, ↓reduceIte, decide_false, decide_true]))
      · rw [l2] at e58
        have hgo : ∀ B : Option Int32, (gd (isk S a 1) <|
    bd (P a 4) fun (b_25 : Nat) =>
    gd (isk S b_25 2) <|
    bd (P b_25 10) fun (b_27 : Nat) =>
    gd (isk S b_27 30) <|
    gd (inb (nI f) (S b_27).2) <|
    bd (P b_27 (ix (nI f))) fun (b_30 : Nat) =>
    gd (isk S b_30 28) <|
    gd (inb (nI fl) (S b_30).2) <|
    bd (P b_30 (ix (nI fl))) fun (b_33 : Nat) =>
    gd (isk S b_33 21) <|
    gd (inb (nI lent) (S b_33).2) <|
    if (enc a Y I b_33 (ix (nI lent))) = 0 then (
      B)
    else (
      some (1 : Int32))) = B := by
          intro B
          ((repeat (first | (with_reducible refine Eq.trans njE ?_; (try dsimp only)) | ((conv => lhs; arg 1; simp (maxSteps := 1000000) (disch := omega) only [LA_ka hA, h4, LV_kv hL, LV_p10 hL, LV_k10 hL, LV_n10 hL, LV_pL hL, LV_kL hL, LV_nL hL, LV_pL3 hL, LV_kL3 hL, LV_nL3 hL, er_le hv, e58, li_0, li_1, li_2, li_3, li_4, li_5, li_6, li_7, li_8, li_9, li_10, li_11, li_12, li_13, li_14, li_15, li_16, li_17, li_18, li_19, li_20, li_21, li_22, li_23, li_24, li_25, li_26, li_27, li_28, li_29, li_30, li_31, li_32, li_33, li_34, li_35, li_36, li_37, li_38, li_39, li_40, li_41, li_42, li_43, li_44, li_45, li_48, li_57, li_59, li_61, li_63, li_64, li_65, li_72, li_90, li_97, li_99, li_101, li_102, li_103, li_104, li_105, li_108, li_109, li_111, li_114, li_115, li_116, li_117, li_118, li_120, li_121, li_122, li_216, li_240, li_255, li_256, li_380, li_400, li_480, li_511, li_512, li_729, li_1000, li_5184, li_10000, li_46656, li_65536, li_99999, li_1000000, ni_add, ni_mul, ni_sub, ni_ix, inb_t, ni_le_t, ni_le_f, ni_lt_t, ni_lt_f, ni_eq_t, ni_eq_f, ni_m1, ni_m1', ni_mn, ni_mn', Nat.add_sub_cancel, Nat.add_zero, zr_ne, zr_ni, zr_eq, gd_t, bd_s, if_true, if_false, Bool.not_true, Bool.not_false, ↓reduceIte, decide_false, decide_true]); (first | with_reducible refine Eq.trans gd_t ?_ | with_reducible refine Eq.trans bd_s ?_ | with_reducible refine Eq.trans bdp_s ?_ | with_reducible refine Eq.trans (if_pos trivial) ?_ | with_reducible refine Eq.trans (if_neg not_false) ?_ | with_reducible refine Eq.trans nmE ?_))));  (try simp (maxSteps := 1000000) (disch := omega) only [LA_ka hA, h4, LV_kv hL, LV_p10 hL, LV_k10 hL, LV_n10 hL, LV_pL hL, LV_kL hL, LV_nL hL, LV_pL3 hL, LV_kL3 hL, LV_nL3 hL, er_le hv, e58, li_0, li_1, li_2, li_3, li_4, li_5, li_6, li_7, li_8, li_9, li_10, li_11, li_12, li_13, li_14, li_15, li_16, li_17, li_18, li_19, li_20, li_21, li_22, li_23, li_24, li_25, li_26, li_27, li_28, li_29, li_30, li_31, li_32, li_33, li_34, li_35, li_36, li_37, li_38, li_39, li_40, li_41, li_42, li_43, li_44, li_45, li_48, li_57, li_59, li_61, li_63, li_64, li_65, li_72, li_90, li_97, li_99, li_101, li_102, li_103, li_104, li_105, li_108, li_109, li_111, li_114, li_115, li_116, li_117, li_118, li_120, li_121, li_122, li_216, li_240, li_255, li_256, li_380, li_400, li_480, li_511, li_512, li_729, li_1000, li_5184, li_10000, li_46656, li_65536, li_99999, li_1000000, ni_add, ni_mul, ni_sub, ni_ix, inb_t, ni_le_t, ni_le_f, ni_lt_t, ni_lt_f, ni_eq_t, ni_eq_f, ni_m1, ni_m1', ni_mn, ni_mn', Nat.add_sub_cancel, Nat.add_zero, zr_ne, zr_ni, zr_eq, gd_t, bd_s, if_true, if_false, Bool.not_true, Bool.not_false, ↓reduceIte, decide_false, decide_true]))
        rw [hgo]
        constructor
        · rintro (⟨_, g⟩ | g)
          · rw [l1] at g; cases g
          · exact h28.1 g
        · intro g
          exact h28.2 fun c => g (Or.inr c)
    · rw [if_neg (ni_ne hus (by omega) (by omega))]
      constructor
      · rintro (⟨g, _⟩ | g)
        · exact absurd g hus
        · exact h28.1 g
      · intro g
        exact h28.2 fun c => g (Or.inr c)
/-- the least three of a set -/
def lb (s : Nat) : Nat := if s % 2 = 1 then 0 else if s / 2 % 2 = 1 then 1 else if s / 4 % 2 = 1 then 2 else 3
theorem ntz_k : ∀ s : Fin 16, s.1 ≠ 0 → fJ13_numberOfTrailingZeros (nI s.1) = some (nI (lb s.1)) := by decide +kernel
theorem lb_k : ∀ s : Fin 16, s.1 ≠ 0 → s.1.testBit (lb s.1) = true ∧ lb s.1 < 4 ∧ ∀ i : Fin 4, i.1 < lb s.1 → s.1.testBit i.1 = false := by decide +kernel
theorem p4_k : ∀ t : Fin 4, 2 ^ t.1 < 16 ∧ pcn 4 (2 ^ t.1) = 1 := by decide +kernel
def crs (Z : zT) (m set : Nat) : Prop := ∃ x, x < 3 ∧ Clo (Ln Z) m (lb set) x set x (2 ^ lb set)
theorem e_isRing {a v w n m nn nl nw : Nat} {S : sT} {P : pT} {Y I Z : zT} {set : Nat} (hR : Rel a v w S P Y I n Z m nn nl nw) (hs : set < 16) (h0 : set ≠ 0) : (crs Z m set → fX0_isRing S P (enc a Y I) a (nI set) = some (nI 1)) ∧ (¬ crs Z m set → fX0_isRing S P (enc a Y I) a (nI set) = some (nI 0)) := by
  obtain ⟨⟨hv, hw, hA, h4, h5, hL, hM⟩, hn, hX, hN, hB, hC, hP, hK⟩ := id hR
  have hm4 : m ≤ 4 := hN.2.1.1
  have hn20 : nn ≤ 20 := hN.2.1.2.1
  have hl99 : nl ≤ 99 := hN.2.1.2.2.1
  have hw9 : nw ≤ 9 := hN.2.1.2.2.2
  have hn := ntz_k ⟨set, hs⟩ h0
  have hn : fJ13_numberOfTrailingZeros (nI set) = some (nI (lb set)) := hn
  have hb := (lb_k ⟨set, hs⟩ h0).2.1
  have hb : lb set < 4 := hb
  obtain ⟨p1, p2⟩ := p4_k ⟨lb set, hb⟩
  have p1 : 2 ^ lb set < 16 := p1
  have p2 : pcn 4 (2 ^ lb set) = 1 := p2
  unfold fX0_isRing
  rw [hn, bd_s, njE]
  refine it0_ue (Q := fun o => (crs Z m set → o = some (nI 1)) ∧ (¬ crs Z m set → o = some (nI 0))) (N := 3) (fun k => ¬ ∃ x, x < k ∧ Clo (Ln Z) m (lb set) x set x (2 ^ lb set)) ?_ ?_ (FU_lt (by omega)) (fun ⟨x, h, _⟩ => absurd h (Nat.not_lt_zero _))
  · intro kk k hk hno
    have hc := e_closes (f := lb set) (fl := k) (set := set) hR hb hk hs 12 k (2 ^ lb set) hk p1 (by omega)
    have ejs : js (1 : Int32) (nI (lb set)) = nI (2 ^ lb set) := js_2 (by omega)
    unfold lX0_isRing_7
    rw [if_neg (show ¬ (3 : Int32) ≤ nI k from nI_ge (b := 3) hk (by omega)), gd_of (LA_ka hA), ejs]
    by_cases hx : Clo (Ln Z) m (lb set) k set k (2 ^ lb set)
    · refine Or.inl ⟨fun _ => ?_, fun g => absurd ⟨k, hk, hx⟩ g⟩
      rw [hc.1 hx, bd_s, if_neg (by decide)]
      rfl
    · refine Or.inr ⟨?_, ?_⟩
      · rw [hc.2 hx, bd_s, if_pos (by decide), nmE, show nI k + (1 : Int32) = nI (k + 1) from nI_1 k]
      · rintro ⟨x, h1, h2⟩
        rcases Nat.lt_or_ge x k with c | c
        · exact hno ⟨x, c, h2⟩
        · obtain rfl : x = k := by omega
          exact hx h2
  · intro kk hno
    exact ⟨fun g => absurd g hno, fun _ => if_pos (by decide)⟩
def gring (Z : zT) (m set : Nat) : Prop := 2 ≤ pc set ∧ crs Z m set
theorem pc1_k : ∀ s : Fin 16, 2 ≤ pc s.1 → s.1 ≠ 0 := by decide +kernel
theorem e_ring {a v w n m nn nl nw : Nat} {S : sT} {P : pT} {Y I Z : zT} (hR : Rel a v w S P Y I n Z m nn nl nw) : ∃ r, fX0_ring S P (enc a Y I) a = some r ∧ ((r = (-1 : Int32) ∧ ∀ j, j < 2 ^ m → ¬ gring Z m j) ∨ ∃ b, r = nI b ∧ fl (gring Z m) (2 ^ m) b) := by
  obtain ⟨⟨hv, hw, hA, h4, h5, hL, hM⟩, hn, hX, hN, hB, hC, hP, hK⟩ := id hR
  have hm4 : m ≤ 4 := hN.2.1.1
  have hn20 : nn ≤ 20 := hN.2.1.2.1
  have hl99 : nl ≤ 99 := hN.2.1.2.2.1
  have hw9 : nw ≤ 9 := hN.2.1.2.2.2
  have hN2 : 2 ^ m ≤ 16 := Nat.pow_le_pow_right (n := 2) (by omega) (show m ≤ 4 by omega)
  have e2 : js (1 : Int32) (enc a Y I v 15) = nI (2 ^ m) := by rw [er_s15 hv, VN_2 hN, VN_m hN]; exact js_2 (by omega)
  unfold fX0_ring
  rw [njE]
  refine it1_up (Q := fun o => ∃ r, o = some r ∧ ((r = (-1 : Int32) ∧ ∀ j, j < 2 ^ m → ¬ gring Z m j) ∨ ∃ b, r = nI b ∧ fl (gring Z m) (2 ^ m) b)) (N := 2 ^ m) (fun k x => (x = (-1 : Int32) ∧ ∀ j, j < k → ¬ gring Z m j) ∨ ∃ b, x = nI b ∧ fl (gring Z m) k b) ?_ ?_ (F := FU) (FU_lt (by omega)) (Or.inl ⟨rfl, fun f hf => absurd hf (Nat.not_lt_zero _)⟩)
  · intro kk k x hk hx
    have hlt : ¬ js (1 : Int32) (enc a Y I v 15) ≤ nI k := by rw [e2]; exact nI_ge hk (by omega)
    have hk1 : nI k + (1 : Int32) = nI (k + 1) := nI_1 k
    have hpk := pc_le k
    have hnone : ∀ x, x = (-1 : Int32) ∧ (∀ j, j < k → ¬ gring Z m j) → ¬ gring Z m k → x = (-1 : Int32) ∧ (∀ j, j < k + 1 → ¬ gring Z m j) := by
      rintro x ⟨h1, h2⟩ h3
      refine ⟨h1, fun j hj => ?_⟩
      rcases Nat.lt_or_ge j k with c | c
      · exact h2 j c
      · obtain rfl : j = k := by omega
        exact h3
    have hu : ∀ x, lX0_ring_4 S P (enc a Y I) a kk x (nI k) = if nI (pc k) < (2 : Int32) then kk x (nI (k + 1)) else
        nj (bd (fX0_isRing S P (enc a Y I) a (nI k)) fun (r_10 : Int32) => if r_10 = 0 then kk x (nI (k + 1)) else kk (nI k) (nI (k + 1))) fun j40 =>
        if x = (-1 : Int32) then j40 else bd (fJ13_bitCount x) fun (r_14 : Int32) => if r_14 ≤ nI (pc k) then kk x (nI (k + 1)) else j40 := by
      intro x
      unfold lX0_ring_4
      rw [gd_of (LA_ka hA), h4, bd_s, gd_of (LV_kv hL), if_neg hlt, e_bc (show k < 4096 by omega), bd_s, njE]
      dsimp only
      simp only [nmE, hk1]
    by_cases c1 : 2 ≤ pc k
    · have hk0 : k ≠ 0 := pc1_k ⟨k, by omega⟩ c1
      have hir := e_isRing hR (show k < 16 by omega) hk0
      have hu2 : ∀ x, lX0_ring_4 S P (enc a Y I) a kk x (nI k) = nj (bd (fX0_isRing S P (enc a Y I) a (nI k)) fun (r_10 : Int32) => if r_10 = 0 then kk x (nI (k + 1)) else kk (nI k) (nI (k + 1))) fun j40 =>
        if x = (-1 : Int32) then j40 else bd (fJ13_bitCount x) fun (r_14 : Int32) => if r_14 ≤ nI (pc k) then kk x (nI (k + 1)) else j40 := fun x => by
        rw [hu x, if_neg (show ¬ nI (pc k) < (2 : Int32) from nI_nlt (b := 2) c1 (by omega))]
      by_cases c2 : crs Z m k
      · rw [hir.1 c2] at hu2
        rcases hx with hx | ⟨b, rfl, hx⟩
        · refine ⟨nI k, ?_, Or.inr ⟨k, rfl, fl_first hx.2 ⟨c1, c2⟩⟩⟩
          rw [hu2, njE, if_pos hx.1, bd_s, if_neg (by decide)]
        · have hb : b < 4096 := by have := hx.1; omega
          have hpb := pc_le b
          by_cases c3 : pc k < pc b
          · refine ⟨nI k, ?_, Or.inr ⟨k, rfl, fl_new hx ⟨c1, c2⟩ c3⟩⟩
            rw [hu2, njE, if_neg (show ¬ nI b = (-1 : Int32) from fun e => by rw [ni_m1 (by omega)] at e; exact e), e_bc hb, bd_s, if_neg (nI_ge c3 (by omega)), bd_s, if_neg (by decide)]
          · refine ⟨nI b, ?_, Or.inr ⟨b, rfl, fl_keep hx fun _ => by omega⟩⟩
            rw [hu2, njE, if_neg (show ¬ nI b = (-1 : Int32) from fun e => by rw [ni_m1 (by omega)] at e; exact e), e_bc hb, bd_s, if_pos (nI_le (by omega) (by omega))]
      · rw [hir.2 c2] at hu2
        rcases hx with hx | ⟨b, rfl, hx⟩
        · refine ⟨x, ?_, Or.inl (hnone x hx fun g => c2 g.2)⟩
          rw [hu2, njE, if_pos hx.1, bd_s, if_pos (by decide)]
        · have hb : b < 4096 := by have := hx.1; omega
          have hpb := pc_le b
          refine ⟨nI b, ?_, Or.inr ⟨b, rfl, fl_keep hx fun g => absurd g.2 c2⟩⟩
          rw [hu2, njE, if_neg (show ¬ nI b = (-1 : Int32) from fun e => by rw [ni_m1 (by omega)] at e; exact e), e_bc hb, bd_s, bd_s, if_pos (show nI 0 = (0 : Int32) from rfl)]
          split <;> rfl
    · refine ⟨x, ?_, ?_⟩
      · rw [hu x, if_pos (show nI (pc k) < (2 : Int32) from nI_lt (b := 2) (by omega) (by omega))]
      · rcases hx with hx | ⟨b, rfl, hx⟩
        · exact Or.inl (hnone x hx fun g => c1 g.1)
        · exact Or.inr ⟨b, rfl, fl_keep hx fun g => absurd g.1 c1⟩
  · intro kk x hx
    refine ⟨x, ?_, hx⟩
    unfold lX0_ring_4
    rw [gd_of (LA_ka hA), h4, bd_s, gd_of (LV_kv hL), if_pos (by rw [e2]; exact nI_le (Nat.le_refl _) (by omega))]
