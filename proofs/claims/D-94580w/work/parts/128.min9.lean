/-! LAYER 2: minutes: who holds; a minute -/
def hl (t k : Nat) (Y : zT) : zT := fun f i =>
  if f = 11 then (if (i / 9 < t ∨ (i / 9 = t ∧ i % 3 < k)) ∧ Y 7 (3 * (i / 9) + i % 3) = nI (i / 3 % 3) then Y 11 i + nI 1 else Y 11 i) else Y f i
theorem hl_o {t k f : Nat} {Y : zT} (h : f ≠ 11) : hl t k Y f = Y f := by
  funext i
  exact if_neg h
theorem hl_11 {t k i : Nat} {Y : zT} : hl t k Y 11 i = if (i / 9 < t ∨ (i / 9 = t ∧ i % 3 < k)) ∧ Y 7 (3 * (i / 9) + i % 3) = nI (i / 3 % 3) then Y 11 i + nI 1 else Y 11 i := if_pos rfl
theorem hl_0 {Y : zT} : hl 0 0 Y = Y := by
  funext f i
  by_cases h : f = 11
  · subst h; rw [hl_11, if_neg (fun h => by omega)]
  · rw [hl_o h]
theorem hl_n {t : Nat} {Y : zT} : hl t 3 Y = hl (t + 1) 0 Y := by
  funext f i
  by_cases h : f = 11
  · subst h
    rw [hl_11, hl_11]
    by_cases hc : (i / 9 < t ∨ (i / 9 = t ∧ i % 3 < 3)) ∧ Y 7 (3 * (i / 9) + i % 3) = nI (i / 3 % 3)
    · rw [if_pos hc, if_pos ⟨by omega, hc.2⟩]
    · rw [if_neg hc, if_neg (fun h => hc ⟨by omega, h.2⟩)]
  · rw [hl_o h, hl_o h]
theorem hl_s {t k w : Nat} {Y : zT} (hk : k < 3) (hw : w < 3) (e : Y 7 (3 * t + k) = nI w) : zset (hl t k Y) 11 (3 * (3 * t + w) + k) (Y 11 (3 * (3 * t + w) + k) + nI 1) = hl t (k + 1) Y := by
  funext f i
  by_cases h : f = 11
  · subst h
    by_cases hi : i = 3 * (3 * t + w) + k
    · subst hi
      rw [zr_eq, hl_11, if_pos]
      rw [show (3 * (3 * t + w) + k) / 9 = t from by omega, show (3 * (3 * t + w) + k) % 3 = k from by omega, show (3 * (3 * t + w) + k) / 3 % 3 = w from by omega]
      exact ⟨by omega, e⟩
    · rw [zr_ni hi, hl_11, hl_11]
      by_cases ht : i / 9 = t ∧ i % 3 = k
      · rw [if_neg (fun h => by omega), if_neg]
        rintro ⟨h1, h2⟩
        rw [ht.1, ht.2, e] at h2
        have := (nI_eq (show w < 2 ^ 31 by omega) (show i / 3 % 3 < 2 ^ 31 by omega)).mp h2
        omega
      · by_cases hc : (i / 9 < t ∨ (i / 9 = t ∧ i % 3 < k)) ∧ Y 7 (3 * (i / 9) + i % 3) = nI (i / 3 % 3)
        · rw [if_pos hc, if_pos ⟨by omega, hc.2⟩]
        · rw [if_neg hc, if_neg (fun h => hc ⟨by omega, h.2⟩)]
  · rw [zr_ne h, hl_o h, hl_o h]
theorem hl_m {t k w : Nat} {Y : zT} (hk : k < 3) (hw : 3 ≤ w) (hw2 : w ≤ 18) (e : Y 7 (3 * t + k) = nI w) : hl t k Y = hl t (k + 1) Y := by
  funext f i
  by_cases h : f = 11
  · subst h
    rw [hl_11, hl_11]
    by_cases ht : i / 9 = t ∧ i % 3 = k
    · rw [if_neg (fun h => by omega), if_neg]
      rintro ⟨h1, h2⟩
      rw [ht.1, ht.2, e] at h2
      have := (nI_eq (show w < 2 ^ 31 by omega) (show i / 3 % 3 < 2 ^ 31 by omega)).mp h2
      omega
    · by_cases hc : (i / 9 < t ∨ (i / 9 = t ∧ i % 3 < k)) ∧ Y 7 (3 * (i / 9) + i % 3) = nI (i / 3 % 3)
      · rw [if_pos hc, if_pos ⟨by omega, hc.2⟩]
      · rw [if_neg hc, if_neg (fun h => hc ⟨by omega, h.2⟩)]
  · rw [hl_o h, hl_o h]
theorem hl_at {t k w : Nat} {Y : zT} (hk : k < 3) (hw : w < 3) : hl t k Y 11 (3 * (3 * t + w) + k) = Y 11 (3 * (3 * t + w) + k) := by
  rw [hl_11, if_neg (fun h => by omega)]
theorem hl_snd {t k m c : Nat} {Y : zT} : hl t k (snd m Y c) = snd m (hl t k Y) c := by
  funext f i
  by_cases h : f = 11
  · subst h
    rw [hl_11, snd_o (by omega) (by omega), snd_o (by omega) (by omega), snd_o (by omega) (by omega), hl_11]
  · rw [hl_o h]
    by_cases h1 : f = 20
    · subst h1; rw [snd_20, snd_20, hl_o (by omega), hl_o (by omega)]
    · by_cases h2 : f = 21
      · subst h2; rw [snd_21, snd_21, hl_o (by omega), hl_o (by omega)]
      · rw [snd_o h1 h2, snd_o h1 h2, hl_o h]
/-- OneEye's holding loop -/
theorem e_held {a v m : Nat} {S : sT} {P : pT} {Y I : zT} {J : zT → Option zT} (hv : v = a + 2) (hL : LV S P v) (hm : m ≤ 4) (h2 : Y 2 0 = nI m) (h65 : ∀ t, t < 4 → Y 65 t = nI t) (h7 : ∀ i, i < 12 → ∃ q, q ≤ 18 ∧ Y 7 i = nI q) : it1 (lX1_aMinute_85 S P v J) FU (enc a Y I) (nI 0) = J (enc a (hl m 0 Y) I) := by
  refine it1_up (Q := fun o => o = J (enc a (hl m 0 Y) I)) (N := m) (fun t I' => I' = enc a (hl t 0 Y) I) ?_ ?_ (F := FU) (FU_lt (by omega)) (by rw [hl_0])
  · rintro kk t _ ht rfl
    refine ⟨_, ?_, rfl⟩
    unfold lX1_aMinute_85
    have e2 : hl t 0 Y 2 0 = nI m := by rw [hl_o (by omega)]; exact h2
    simp (maxSteps := 1000000) (disch := omega) only [er_s15 hv, e2, ni_le_f, if_false, njE, nmE, li_1, ni_add]
    refine it1_up (Q := fun o => o = kk (enc a (hl (t + 1) 0 Y) I) (nI (t + 1))) (N := 3) (fun k I' => I' = enc a (hl t k Y) I) ?_ ?_ (F := FU) (FU_lt (by omega)) rfl
    · rintro k2 k _ hk rfl
      obtain ⟨q, hq, eq⟩ := h7 (3 * t + k) (by omega)
      have e7 : hl t k Y 7 (3 * t + k) = nI q := by rw [hl_o (by omega)]; exact eq
      have e65 : hl t k Y 65 t = nI t := by rw [hl_o (by omega)]; exact h65 t (by omega)
      refine ⟨_, ?_, rfl⟩
      unfold lX1_aMinute_95
      by_cases hq3 : 3 ≤ q
      · rw [← hl_m hk hq3 hq eq]
        ((repeat (first | (with_reducible refine Eq.trans njE ?_; (try dsimp only)) | ((conv => lhs; arg 1; simp (maxSteps := 1000000) (disch := omega) only [LV_kv hL, LV_p0 hL, LV_k0 hL, LV_n0 hL, LV_pT hL, LV_kT hL, LV_pW hL, LV_kW hL, LV_nW hL, er_w hv, e7, li_0, li_1, li_2, li_3, li_4, li_5, li_6, li_7, li_8, li_9, li_10, li_11, li_12, li_13, li_14, li_15, li_16, li_17, li_18, li_19, li_20, li_21, li_22, li_23, li_24, li_25, li_26, li_27, li_28, li_29, li_30, li_31, li_32, li_33, li_34, li_35, li_36, li_37, li_38, li_39, li_40, li_41, li_42, li_43, li_44, li_45, li_48, li_57, li_59, li_61, li_63, li_64, li_65, li_72, li_90, li_97, li_99, li_101, li_102, li_103, li_104, li_105, li_108, li_109, li_111, li_114, li_115, li_116, li_117, li_118, li_120, li_121, li_122, li_216, li_240, li_255, li_256, li_380, li_400, li_480, li_511, li_512, li_729, li_1000, li_5184, li_10000, li_46656, li_65536, li_99999, li_1000000, ni_add, ni_mul, ni_sub, ni_ix, inb_t, ni_le_t, ni_le_f, ni_lt_t, ni_lt_f, ni_eq_t, ni_eq_f, ni_m1, ni_m1', ni_mn, ni_mn', Nat.add_sub_cancel, Nat.add_zero, zr_ne, zr_ni, zr_eq, gd_t, bd_s, if_true, if_false, Bool.not_true, Bool.not_false, ↓reduceIte, decide_false, decide_true]); (first | with_reducible refine Eq.trans gd_t ?_ | with_reducible refine Eq.trans bd_s ?_ | with_reducible refine Eq.trans bdp_s ?_ | with_reducible refine Eq.trans (if_pos trivial) ?_ | with_reducible refine Eq.trans (if_neg not_false) ?_ | with_reducible refine Eq.trans nmE ?_))));  (try simp (maxSteps := 1000000) (disch := omega) only [LV_kv hL, LV_p0 hL, LV_k0 hL, LV_n0 hL, LV_pT hL, LV_kT hL, LV_pW hL, LV_kW hL, LV_nW hL, er_w hv, e7, li_0, li_1, li_2, li_3, li_4, li_5, li_6, li_7, li_8, li_9, li_10, li_11, li_12, li_13, li_14, li_15, li_16, li_17, li_18, li_19, li_20, li_21, li_22, li_23, li_24, li_25, li_26, li_27, li_28, li_29, li_30, li_31, li_32, li_33, li_34, li_35, li_36, li_37, li_38, li_39, li_40, li_41, li_42, li_43, li_44, li_45, li_48, li_57, li_59, li_61, li_63, li_64, li_65, li_72, li_90, li_97, li_99, li_101, li_102, li_103, li_104, li_105, li_108, li_109, li_111, li_114, li_115, li_116, li_117, li_118, li_120, li_121, li_122, li_216, li_240, li_255, li_256, li_380, li_400, li_480, li_511, li_512, li_729, li_1000, li_5184, li_10000, li_46656, li_65536, li_99999, li_1000000, ni_add, ni_mul, ni_sub, ni_ix, inb_t, ni_le_t, ni_le_f, ni_lt_t, ni_lt_f, ni_eq_t, ni_eq_f, ni_m1, ni_m1', ni_mn, ni_mn', Nat.add_sub_cancel, Nat.add_zero, zr_ne, zr_ni, zr_eq, gd_t, bd_s, if_true, if_false, Bool.not_true, Bool.not_false, ↓reduceIte, decide_false, decide_true]))
      · rw [← hl_s hk (show q < 3 by omega) eq]
        have e11 : hl t k Y 11 (3 * (3 * t + q) + k) = Y 11 (3 * (3 * t + q) + k) := hl_at hk (by omega)
        ((repeat (first | (with_reducible refine Eq.trans njE ?_; (try dsimp only)) | ((conv => lhs; arg 1; simp (maxSteps := 1000000) (disch := omega) only [LV_kv hL, LV_p0 hL, LV_k0 hL, LV_n0 hL, LV_pT hL, LV_kT hL, LV_pW hL, LV_kW hL, LV_nW hL, LV_p2 hL, LV_k2 hL, LV_n2 hL, LV_pH hL, LV_kH hL, LV_nH hL, er_w hv, er_he hv, ew_he hv, e_person hv hL (show t < 4 by omega) e65, e7, e11, li_0, li_1, li_2, li_3, li_4, li_5, li_6, li_7, li_8, li_9, li_10, li_11, li_12, li_13, li_14, li_15, li_16, li_17, li_18, li_19, li_20, li_21, li_22, li_23, li_24, li_25, li_26, li_27, li_28, li_29, li_30, li_31, li_32, li_33, li_34, li_35, li_36, li_37, li_38, li_39, li_40, li_41, li_42, li_43, li_44, li_45, li_48, li_57, li_59, li_61, li_63, li_64, li_65, li_72, li_90, li_97, li_99, li_101, li_102, li_103, li_104, li_105, li_108, li_109, li_111, li_114, li_115, li_116, li_117, li_118, li_120, li_121, li_122, li_216, li_240, li_255, li_256, li_380, li_400, li_480, li_511, li_512, li_729, li_1000, li_5184, li_10000, li_46656, li_65536, li_99999, li_1000000, ni_add, ni_mul, ni_sub, ni_ix, inb_t, ni_le_t, ni_le_f, ni_lt_t, ni_lt_f, ni_eq_t, ni_eq_f, ni_m1, ni_m1', ni_mn, ni_mn', Nat.add_sub_cancel, Nat.add_zero, zr_ne, zr_ni, zr_eq, gd_t, bd_s, if_true, if_false, Bool.not_true, Bool.not_false, ↓reduceIte, decide_false, decide_true]); (first | with_reducible refine Eq.trans gd_t ?_ | with_reducible refine Eq.trans bd_s ?_ | with_reducible refine Eq.trans bdp_s ?_ | with_reducible refine Eq.trans (if_pos trivial) ?_ | with_reducible refine Eq.trans (if_neg not_false) ?_ | with_reducible refine Eq.trans nmE ?_))));  (try simp (maxSteps := 1000000) (disch := omega) only [LV_kv hL, LV_p0 hL, LV_k0 hL, LV_n0 hL, LV_pT hL, LV_kT hL, LV_pW hL, LV_kW hL, LV_nW hL, LV_p2 hL, LV_k2 hL, LV_n2 hL, LV_pH hL, LV_kH hL, LV_nH hL, er_w hv, er_he hv, ew_he hv, e_person hv hL (show t < 4 by omega) e65, e7, e11, li_0, li_1, li_2, li_3, li_4, li_5, li_6, li_7, li_8, li_9, li_10, li_11, li_12, li_13, li_14, li_15, li_16, li_17, li_18, li_19, li_20, li_21, li_22, li_23, li_24, li_25, li_26, li_27, li_28, li_29, li_30, li_31, li_32, li_33, li_34, li_35, li_36, li_37, li_38, li_39, li_40, li_41, li_42, li_43, li_44, li_45, li_48, li_57, li_59, li_61, li_63, li_64, li_65, li_72, li_90, li_97, li_99, li_101, li_102, li_103, li_104, li_105, li_108, li_109, li_111, li_114, li_115, li_116, li_117, li_118, li_120, li_121, li_122, li_216, li_240, li_255, li_256, li_380, li_400, li_480, li_511, li_512, li_729, li_1000, li_5184, li_10000, li_46656, li_65536, li_99999, li_1000000, ni_add, ni_mul, ni_sub, ni_ix, inb_t, ni_le_t, ni_le_f, ni_lt_t, ni_lt_f, ni_eq_t, ni_eq_f, ni_m1, ni_m1', ni_mn, ni_mn', Nat.add_sub_cancel, Nat.add_zero, zr_ne, zr_ni, zr_eq, gd_t, bd_s, if_true, if_false, Bool.not_true, Bool.not_false, ↓reduceIte, decide_false, decide_true]))
    · rintro k2 _ rfl
      unfold lX1_aMinute_95
      rw [if_pos (by decide), hl_n]
  · rintro kk _ rfl
    unfold lX1_aMinute_85
    have e2 : hl m 0 Y 2 0 = nI m := by rw [hl_o (by omega)]; exact h2
    simp (maxSteps := 1000000) (disch := omega) only [er_s15 hv, e2, ni_le_t, if_true]
/-- OneEyeModel's holding loop -/
theorem m_held {m : Nat} {Z : zT} {J : zT → Option zT} (hm : m ≤ 4) (h2 : Z 2 0 = nI m) (h7 : ∀ i, i < 12 → ∃ q, q ≤ 18 ∧ Z 7 i = nI q) : it1 (lX4_goesBy_102 J) FU Z (nI 0) = J (hl m 0 Z) := by
  refine it1_up (Q := fun o => o = J (hl m 0 Z)) (N := m) (fun t I' => I' = hl t 0 Z) ?_ ?_ (F := FU) (FU_lt (by omega)) hl_0.symm
  · rintro kk t _ ht rfl
    refine ⟨_, ?_, rfl⟩
    unfold lX4_goesBy_102
    have e2 : hl t 0 Z 2 0 = nI m := by rw [hl_o (by omega)]; exact h2
    simp (maxSteps := 1000000) (disch := omega) only [e2, ni_le_f, if_false, njE, nmE, li_1, ni_add]
    refine it1_up (Q := fun o => o = kk (hl (t + 1) 0 Z) (nI (t + 1))) (N := 3) (fun k I' => I' = hl t k Z) ?_ ?_ (F := FU) (FU_lt (by omega)) rfl
    · rintro k2 k _ hk rfl
      obtain ⟨q, hq, eq⟩ := h7 (3 * t + k) (by omega)
      have e7 : hl t k Z 7 (3 * t + k) = nI q := by rw [hl_o (by omega)]; exact eq
      refine ⟨_, ?_, rfl⟩
      unfold lX4_goesBy_112
      by_cases hq3 : 3 ≤ q
      · rw [← hl_m hk hq3 hq eq]
        ((repeat (first | (with_reducible refine Eq.trans njE ?_; (try dsimp only)) | ((conv => lhs; arg 1; simp (maxSteps := 1000000) (disch := omega) only [m_hold_f (show t < 4 by omega) hk e7 hq3 hq, li_0, li_1, li_2, li_3, li_4, li_5, li_6, li_7, li_8, li_9, li_10, li_11, li_12, li_13, li_14, li_15, li_16, li_17, li_18, li_19, li_20, li_21, li_22, li_23, li_24, li_25, li_26, li_27, li_28, li_29, li_30, li_31, li_32, li_33, li_34, li_35, li_36, li_37, li_38, li_39, li_40, li_41, li_42, li_43, li_44, li_45, li_48, li_57, li_59, li_61, li_63, li_64, li_65, li_72, li_90, li_97, li_99, li_101, li_102, li_103, li_104, li_105, li_108, li_109, li_111, li_114, li_115, li_116, li_117, li_118, li_120, li_121, li_122, li_216, li_240, li_255, li_256, li_380, li_400, li_480, li_511, li_512, li_729, li_1000, li_5184, li_10000, li_46656, li_65536, li_99999, li_1000000, ni_add, ni_mul, ni_sub, ni_ix, inb_t, ni_le_t, ni_le_f, ni_lt_t, ni_lt_f, ni_eq_t, ni_eq_f, ni_m1, ni_m1', ni_mn, ni_mn', Nat.add_sub_cancel, Nat.add_zero, zr_ne, zr_ni, zr_eq, gd_t, bd_s, if_true, if_false, Bool.not_true, Bool.not_false, ↓reduceIte, decide_false, decide_true]); (first | with_reducible refine Eq.trans gd_t ?_ | with_reducible refine Eq.trans bd_s ?_ | with_reducible refine Eq.trans bdp_s ?_ | with_reducible refine Eq.trans (if_pos trivial) ?_ | with_reducible refine Eq.trans (if_neg not_false) ?_ | with_reducible refine Eq.trans nmE ?_))));  (try simp (maxSteps := 1000000) (disch := omega) only [m_hold_f (show t < 4 by omega) hk e7 hq3 hq, li_0, li_1, li_2, li_3, li_4, li_5, li_6, li_7, li_8, li_9, li_10, li_11, li_12, li_13, li_14, li_15, li_16, li_17, li_18, li_19, li_20, li_21, li_22, li_23, li_24, li_25, li_26, li_27, li_28, li_29, li_30, li_31, li_32, li_33, li_34, li_35, li_36, li_37, li_38, li_39, li_40, li_41, li_42, li_43, li_44, li_45, li_48, li_57, li_59, li_61, li_63, li_64, li_65, li_72, li_90, li_97, li_99, li_101, li_102, li_103, li_104, li_105, li_108, li_109, li_111, li_114, li_115, li_116, li_117, li_118, li_120, li_121, li_122, li_216, li_240, li_255, li_256, li_380, li_400, li_480, li_511, li_512, li_729, li_1000, li_5184, li_10000, li_46656, li_65536, li_99999, li_1000000, ni_add, ni_mul, ni_sub, ni_ix, inb_t, ni_le_t, ni_le_f, ni_lt_t, ni_lt_f, ni_eq_t, ni_eq_f, ni_m1, ni_m1', ni_mn, ni_mn', Nat.add_sub_cancel, Nat.add_zero, zr_ne, zr_ni, zr_eq, gd_t, bd_s, if_true, if_false, Bool.not_true, Bool.not_false, ↓reduceIte, decide_false, decide_true]))
      · rw [← hl_s hk (show q < 3 by omega) eq]
        have e11 : hl t k Z 11 (3 * (3 * t + q) + k) = Z 11 (3 * (3 * t + q) + k) := hl_at hk (by omega)
        ((repeat (first | (with_reducible refine Eq.trans njE ?_; (try dsimp only)) | ((conv => lhs; arg 1; simp (maxSteps := 1000000) (disch := omega) only [m_hold_t (show t < 4 by omega) hk e7 (show q < 3 by omega), e11, li_0, li_1, li_2, li_3, li_4, li_5, li_6, li_7, li_8, li_9, li_10, li_11, li_12, li_13, li_14, li_15, li_16, li_17, li_18, li_19, li_20, li_21, li_22, li_23, li_24, li_25, li_26, li_27, li_28, li_29, li_30, li_31, li_32, li_33, li_34, li_35, li_36, li_37, li_38, li_39, li_40, li_41, li_42, li_43, li_44, li_45, li_48, li_57, li_59, li_61, li_63, li_64, li_65, li_72, li_90, li_97, li_99, li_101, li_102, li_103, li_104, li_105, li_108, li_109, li_111, li_114, li_115, li_116, li_117, li_118, li_120, li_121, li_122, li_216, li_240, li_255, li_256, li_380, li_400, li_480, li_511, li_512, li_729, li_1000, li_5184, li_10000, li_46656, li_65536, li_99999, li_1000000, ni_add, ni_mul, ni_sub, ni_ix, inb_t, ni_le_t, ni_le_f, ni_lt_t, ni_lt_f, ni_eq_t, ni_eq_f, ni_m1, ni_m1', ni_mn, ni_mn', Nat.add_sub_cancel, Nat.add_zero, zr_ne, zr_ni, zr_eq, gd_t, bd_s, if_true, if_false, Bool.not_true, Bool.not_false, ↓reduceIte, decide_false, decide_true]); (first | with_reducible refine Eq.trans gd_t ?_ | with_reducible refine Eq.trans bd_s ?_ | with_reducible refine Eq.trans bdp_s ?_ | with_reducible refine Eq.trans (if_pos trivial) ?_ | with_reducible refine Eq.trans (if_neg not_false) ?_ | with_reducible refine Eq.trans nmE ?_))));  (try simp (maxSteps := 1000000) (disch := omega) only [m_hold_t (show t < 4 by omega) hk e7 (show q < 3 by omega), e11, li_0, li_1, li_2, li_3, li_4, li_5, li_6, li_7, li_8, li_9, li_10, li_11, li_12, li_13, li_14, li_15, li_16, li_17, li_18, li_19, li_20, li_21, li_22, li_23, li_24, li_25, li_26, li_27, li_28, li_29, li_30, li_31, li_32, li_33, li_34, li_35, li_36, li_37, li_38, li_39, li_40, li_41, li_42, li_43, li_44, li_45, li_48, li_57, li_59, li_61, li_63, li_64, li_65, li_72, li_90, li_97, li_99, li_101, li_102, li_103, li_104, li_105, li_108, li_109, li_111, li_114, li_115, li_116, li_117, li_118, li_120, li_121, li_122, li_216, li_240, li_255, li_256, li_380, li_400, li_480, li_511, li_512, li_729, li_1000, li_5184, li_10000, li_46656, li_65536, li_99999, li_1000000, ni_add, ni_mul, ni_sub, ni_ix, inb_t, ni_le_t, ni_le_f, ni_lt_t, ni_lt_f, ni_eq_t, ni_eq_f, ni_m1, ni_m1', ni_mn, ni_mn', Nat.add_sub_cancel, Nat.add_zero, zr_ne, zr_ni, zr_eq, gd_t, bd_s, if_true, if_false, Bool.not_true, Bool.not_false, ↓reduceIte, decide_false, decide_true]))
    · rintro k2 _ rfl
      unfold lX4_goesBy_112
      rw [if_pos (by decide), hl_n]
  · rintro kk _ rfl
    unfold lX4_goesBy_102
    have e2 : hl m 0 Z 2 0 = nI m := by rw [hl_o (by omega)]; exact h2
    simp (maxSteps := 1000000) (disch := omega) only [e2, ni_le_t, if_true]
