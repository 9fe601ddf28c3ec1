/-! LAYER 2: minutes: what is heard, who holds -/
def snd (t : Nat) (Y : zT) (c : Nat) : zT := fun f i =>
  if f = 20 then (if i / 3 < t ∧ Y 7 (3 * (i / 3) + 1) = nI (i % 3) then Y 20 i + nI c else Y 20 i)
  else if f = 21 then (if i < t ∧ ¬ Y 7 (3 * i + 1) < nI 3 then Y 21 i + nI c else Y 21 i)
  else Y f i
theorem snd_o {t c f : Nat} {Y : zT} (h1 : f ≠ 20) (h2 : f ≠ 21) : snd t Y c f = Y f := by
  funext i
  show (if f = 20 then _ else if f = 21 then _ else Y f i) = Y f i
  rw [if_neg h1, if_neg h2]
theorem snd_20 {t c i : Nat} {Y : zT} : snd t Y c 20 i = if i / 3 < t ∧ Y 7 (3 * (i / 3) + 1) = nI (i % 3) then Y 20 i + nI c else Y 20 i := if_pos rfl
theorem snd_21 {t c i : Nat} {Y : zT} : snd t Y c 21 i = if i < t ∧ ¬ Y 7 (3 * i + 1) < nI 3 then Y 21 i + nI c else Y 21 i := by
  show (if (21 : Nat) = 20 then _ else if (21 : Nat) = 21 then _ else Y 21 i) = _
  rw [if_neg (by decide), if_pos rfl]
theorem snd_0 {c : Nat} {Y : zT} : snd 0 Y c = Y := by
  funext f i
  by_cases h1 : f = 20
  · subst h1; rw [snd_20, if_neg (fun h => absurd h.1 (Nat.not_lt_zero _))]
  · by_cases h2 : f = 21
    · subst h2; rw [snd_21, if_neg (fun h => absurd h.1 (Nat.not_lt_zero _))]
    · rw [snd_o h1 h2]
theorem snd_s20 {t c r : Nat} {Y : zT} (hr : r < 3) (e : Y 7 (3 * t + 1) = nI r) : zset (snd t Y c) 20 (3 * t + r) (Y 20 (3 * t + r) + nI c) = snd (t + 1) Y c := by
  funext f i
  by_cases h1 : f = 20
  · subst h1
    by_cases hi : i = 3 * t + r
    · subst hi
      rw [zr_eq, snd_20, if_pos]
      rw [show (3 * t + r) / 3 = t from by omega, show (3 * t + r) % 3 = r from by omega]
      exact ⟨by omega, e⟩
    · rw [zr_ni hi, snd_20, snd_20]
      by_cases ht : i / 3 = t
      · rw [if_neg (fun h => by omega), if_neg]
        rintro ⟨h1, h2⟩
        rw [ht, e] at h2
        have := (nI_eq (show r < 2 ^ 31 by omega) (show i % 3 < 2 ^ 31 by omega)).mp h2
        omega
      · by_cases hc : i / 3 < t ∧ Y 7 (3 * (i / 3) + 1) = nI (i % 3)
        · rw [if_pos hc, if_pos ⟨by omega, hc.2⟩]
        · rw [if_neg hc, if_neg (fun h => hc ⟨by omega, h.2⟩)]
  · rw [zr_ne h1]
    by_cases h2 : f = 21
    · subst h2
      rw [snd_21, snd_21]
      by_cases hi : i = t
      · subst hi
        rw [if_neg (fun h => by omega), if_neg]
        rintro ⟨_, h⟩
        rw [e] at h
        exact h (nI_lt hr (by omega))
      · by_cases hc : i < t ∧ ¬ Y 7 (3 * i + 1) < nI 3
        · rw [if_pos hc, if_pos ⟨by omega, hc.2⟩]
        · rw [if_neg hc, if_neg (fun h => hc ⟨by omega, h.2⟩)]
    · rw [snd_o h1 h2, snd_o h1 h2]
theorem snd_s21 {t c r : Nat} {Y : zT} (hr : 3 ≤ r) (hr2 : r ≤ 18) (e : Y 7 (3 * t + 1) = nI r) : zset (snd t Y c) 21 t (Y 21 t + nI c) = snd (t + 1) Y c := by
  funext f i
  by_cases h1 : f = 20
  · subst h1
    rw [zr_ne (by omega), snd_20, snd_20]
    by_cases ht : i / 3 = t
    · rw [if_neg (fun h => by omega), if_neg]
      rintro ⟨h1, h2⟩
      rw [ht, e] at h2
      have := (nI_eq (show r < 2 ^ 31 by omega) (show i % 3 < 2 ^ 31 by omega)).mp h2
      omega
    · by_cases hc : i / 3 < t ∧ Y 7 (3 * (i / 3) + 1) = nI (i % 3)
      · rw [if_pos hc, if_pos ⟨by omega, hc.2⟩]
      · rw [if_neg hc, if_neg (fun h => hc ⟨by omega, h.2⟩)]
  · by_cases h2 : f = 21
    · subst h2
      by_cases hi : i = t
      · subst hi
        rw [zr_eq, snd_21, if_pos]
        refine ⟨by omega, ?_⟩
        rw [e]; exact nI_nlt hr (by omega)
      · rw [zr_ni hi, snd_21, snd_21]
        by_cases hc : i < t ∧ ¬ Y 7 (3 * i + 1) < nI 3
        · rw [if_pos hc, if_pos ⟨by omega, hc.2⟩]
        · rw [if_neg hc, if_neg (fun h => hc ⟨by omega, h.2⟩)]
    · rw [zr_ne h2, snd_o h1 h2, snd_o h1 h2]
theorem snd_at20 {t c r : Nat} {Y : zT} (hr : r < 3) : snd t Y c 20 (3 * t + r) = Y 20 (3 * t + r) := by
  rw [snd_20, if_neg (fun h => by omega)]
theorem snd_at21 {t c : Nat} {Y : zT} : snd t Y c 21 t = Y 21 t := by
  rw [snd_21, if_neg (fun h => by omega)]
theorem snd_add {m c : Nat} {Y : zT} : snd m (snd m Y c) 1 = snd m Y (c + 1) := by
  funext f i
  by_cases h1 : f = 20
  · subst h1
    rw [snd_20, snd_20, snd_20, snd_o (by omega) (by omega)]
    split
    · rw [← ni_add c 1]; exact Int32.add_assoc _ _ _
    · rfl
  · by_cases h2 : f = 21
    · subst h2
      rw [snd_21, snd_21, snd_21, snd_o (by omega) (by omega)]
      split
      · rw [← ni_add c 1]; exact Int32.add_assoc _ _ _
      · rfl
    · rw [snd_o h1 h2, snd_o h1 h2, snd_o h1 h2]
theorem snd_c0 {m : Nat} {Y : zT} : snd m Y 0 = Y := by
  funext f i
  by_cases h1 : f = 20
  · subst h1
    rw [snd_20]
    split
    · exact add0 _
    · rfl
  · by_cases h2 : f = 21
    · subst h2
      rw [snd_21]
      split
      · exact add0 _
      · rfl
    · rw [snd_o h1 h2]
/-- OneEye's sounds: one noise -/
theorem e_sounds {a v m : Nat} {S : sT} {P : pT} {Y I : zT} (hv : v = a + 2) (hL : LV S P v) (hm : m ≤ 4) (h2 : Y 2 0 = nI m) (h65 : ∀ t, t < 4 → Y 65 t = nI t) (h7 : ∀ t, t < 4 → ∃ q, q ≤ 18 ∧ Y 7 (3 * t + 1) = nI q) : fX1_sounds S P (enc a Y I) v = some (enc a (snd m Y 1) I) := by
  unfold fX1_sounds
  rw [njE]
  refine it1_up (Q := fun o => o = some (enc a (snd m Y 1) I)) (N := m) (fun t I' => I' = enc a (snd t Y 1) I) ?_ ?_ (F := FU) (FU_lt (by omega)) (by rw [snd_0])
  · rintro k t _ ht rfl
    obtain ⟨q, hq, eq⟩ := h7 t (by omega)
    have e2 : snd t Y 1 2 0 = nI m := by rw [snd_o (by omega) (by omega)]; exact h2
    have e7 : snd t Y 1 7 (3 * t + 1) = nI q := by rw [snd_o (by omega) (by omega)]; exact eq
    have e65 : snd t Y 1 65 t = nI t := by rw [snd_o (by omega) (by omega)]; exact h65 t (by omega)
    refine ⟨_, ?_, rfl⟩
    unfold lX1_sounds_2
    by_cases hq3 : 3 ≤ q
    · rw [← snd_s21 hq3 hq eq]
      have e21 : snd t Y 1 21 t = Y 21 t := snd_at21
      ((repeat (first | (with_reducible refine Eq.trans njE ?_; (try dsimp only)) | ((conv => lhs; arg 1; simp (maxSteps := 1000000) (disch := omega) only [LV_kv hL, LV_p0 hL, LV_k0 hL, LV_n0 hL, LV_pT hL, LV_kT hL, LV_pW hL, LV_kW hL, LV_nW hL, er_s15 hv, er_w hv, er_t7 hv, ew_t7 hv, e2, e7, e21, li_0, li_1, li_2, li_3, li_4, li_5, li_6, li_7, li_8, li_9, li_10, li_11, li_12, li_13, li_14, li_15, li_16, li_17, li_18, li_19, li_20, li_21, li_22, li_23, li_24, li_25, li_26, li_27, li_28, li_29, li_30, li_31, li_32, li_33, li_34, li_35, li_36, li_37, li_38, li_39, li_40, li_41, li_42, li_43, li_44, li_45, li_48, li_57, li_59, li_61, li_63, li_64, li_65, li_72, li_90, li_97, li_99, li_101, li_102, li_103, li_104, li_105, li_108, li_109, li_111, li_114, li_115, li_116, li_117, li_118, li_120, li_121, li_122, li_216, li_240, li_255, li_256, li_380, li_400, li_480, li_511, li_512, li_729, li_1000, li_5184, li_10000, li_46656, li_65536, li_99999, li_1000000, ni_add, ni_mul, ni_sub, ni_ix, inb_t, ni_le_t, ni_le_f, ni_lt_t, ni_lt_f, ni_eq_t, ni_eq_f, ni_m1, ni_m1', ni_mn, ni_mn', Nat.add_sub_cancel, Nat.add_zero, zr_ne, zr_ni, zr_eq, gd_t, bd_s, if_true, if_false, Bool.not_true, Bool.not_false, ↓reduceIte, decide_false, decide_true]); (first | with_reducible refine Eq.trans gd_t ?_ | with_reducible refine Eq.trans bd_s ?_ | with_reducible refine Eq.trans bdp_s ?_ | with_reducible refine Eq.trans (if_pos trivial) ?_ | with_reducible refine Eq.trans (if_neg not_false) ?_ | with_reducible refine Eq.trans nmE ?_))));  (try simp (maxSteps := 1000000) (disch := omega) only [LV_kv hL, LV_p0 hL, LV_k0 hL, LV_n0 hL, LV_pT hL, LV_kT hL, LV_pW hL, LV_kW hL, LV_nW hL, er_s15 hv, er_w hv, er_t7 hv, ew_t7 hv, e2, e7, e21, li_0, li_1, li_2, li_3, li_4, li_5, li_6, li_7, li_8, li_9, li_10, li_11, li_12, li_13, li_14, li_15, li_16, li_17, li_18, li_19, li_20, li_21, li_22, li_23, li_24, li_25, li_26, li_27, li_28, li_29, li_30, li_31, li_32, li_33, li_34, li_35, li_36, li_37, li_38, li_39, li_40, li_41, li_42, li_43, li_44, li_45, li_48, li_57, li_59, li_61, li_63, li_64, li_65, li_72, li_90, li_97, li_99, li_101, li_102, li_103, li_104, li_105, li_108, li_109, li_111, li_114, li_115, li_116, li_117, li_118, li_120, li_121, li_122, li_216, li_240, li_255, li_256, li_380, li_400, li_480, li_511, li_512, li_729, li_1000, li_5184, li_10000, li_46656, li_65536, li_99999, li_1000000, ni_add, ni_mul, ni_sub, ni_ix, inb_t, ni_le_t, ni_le_f, ni_lt_t, ni_lt_f, ni_eq_t, ni_eq_f, ni_m1, ni_m1', ni_mn, ni_mn', Nat.add_sub_cancel, Nat.add_zero, zr_ne, zr_ni, zr_eq, gd_t, bd_s, if_true, if_false, Bool.not_true, Bool.not_false, ↓reduceIte, decide_false, decide_true]))
    · rw [← snd_s20 (show q < 3 by omega) eq]
      have e20 : snd t Y 1 20 (3 * t + q) = Y 20 (3 * t + q) := snd_at20 (by omega)
      ((repeat (first | (with_reducible refine Eq.trans njE ?_; (try dsimp only)) | ((conv => lhs; arg 1; simp (maxSteps := 1000000) (disch := omega) only [LV_kv hL, LV_p0 hL, LV_k0 hL, LV_n0 hL, LV_pT hL, LV_kT hL, LV_pW hL, LV_kW hL, LV_nW hL, LV_p6 hL, LV_k6 hL, LV_n6 hL, er_s15 hv, er_w hv, er_hd hv, ew_hd hv, e_person hv hL (show t < 4 by omega) e65, e2, e7, e20, li_0, li_1, li_2, li_3, li_4, li_5, li_6, li_7, li_8, li_9, li_10, li_11, li_12, li_13, li_14, li_15, li_16, li_17, li_18, li_19, li_20, li_21, li_22, li_23, li_24, li_25, li_26, li_27, li_28, li_29, li_30, li_31, li_32, li_33, li_34, li_35, li_36, li_37, li_38, li_39, li_40, li_41, li_42, li_43, li_44, li_45, li_48, li_57, li_59, li_61, li_63, li_64, li_65, li_72, li_90, li_97, li_99, li_101, li_102, li_103, li_104, li_105, li_108, li_109, li_111, li_114, li_115, li_116, li_117, li_118, li_120, li_121, li_122, li_216, li_240, li_255, li_256, li_380, li_400, li_480, li_511, li_512, li_729, li_1000, li_5184, li_10000, li_46656, li_65536, li_99999, li_1000000, ni_add, ni_mul, ni_sub, ni_ix, inb_t, ni_le_t, ni_le_f, ni_lt_t, ni_lt_f, ni_eq_t, ni_eq_f, ni_m1, ni_m1', ni_mn, ni_mn', Nat.add_sub_cancel, Nat.add_zero, zr_ne, zr_ni, zr_eq, gd_t, bd_s, if_true, if_false, Bool.not_true, Bool.not_false, ↓reduceIte, decide_false, decide_true]); (first | with_reducible refine Eq.trans gd_t ?_ | with_reducible refine Eq.trans bd_s ?_ | with_reducible refine Eq.trans bdp_s ?_ | with_reducible refine Eq.trans (if_pos trivial) ?_ | with_reducible refine Eq.trans (if_neg not_false) ?_ | with_reducible refine Eq.trans nmE ?_))));  (try simp (maxSteps := 1000000) (disch := omega) only [LV_kv hL, LV_p0 hL, LV_k0 hL, LV_n0 hL, LV_pT hL, LV_kT hL, LV_pW hL, LV_kW hL, LV_nW hL, LV_p6 hL, LV_k6 hL, LV_n6 hL, er_s15 hv, er_w hv, er_hd hv, ew_hd hv, e_person hv hL (show t < 4 by omega) e65, e2, e7, e20, li_0, li_1, li_2, li_3, li_4, li_5, li_6, li_7, li_8, li_9, li_10, li_11, li_12, li_13, li_14, li_15, li_16, li_17, li_18, li_19, li_20, li_21, li_22, li_23, li_24, li_25, li_26, li_27, li_28, li_29, li_30, li_31, li_32, li_33, li_34, li_35, li_36, li_37, li_38, li_39, li_40, li_41, li_42, li_43, li_44, li_45, li_48, li_57, li_59, li_61, li_63, li_64, li_65, li_72, li_90, li_97, li_99, li_101, li_102, li_103, li_104, li_105, li_108, li_109, li_111, li_114, li_115, li_116, li_117, li_118, li_120, li_121, li_122, li_216, li_240, li_255, li_256, li_380, li_400, li_480, li_511, li_512, li_729, li_1000, li_5184, li_10000, li_46656, li_65536, li_99999, li_1000000, ni_add, ni_mul, ni_sub, ni_ix, inb_t, ni_le_t, ni_le_f, ni_lt_t, ni_lt_f, ni_eq_t, ni_eq_f, ni_m1, ni_m1', ni_mn, ni_mn', Nat.add_sub_cancel, Nat.add_zero, zr_ne, zr_ni, zr_eq, gd_t, bd_s, if_true, if_false, Bool.not_true, Bool.not_false, ↓reduceIte, decide_false, decide_true]))
  · rintro k _ rfl
    unfold lX1_sounds_2
    have e2 : snd m Y 1 2 0 = nI m := by rw [snd_o (by omega) (by omega)]; exact h2
    ((repeat (first | (with_reducible refine Eq.trans njE ?_; (try dsimp only)) | ((conv => lhs; arg 1; simp (maxSteps := 1000000) (disch := omega) only [LV_kv hL, er_s15 hv, e2, li_0, li_1, li_2, li_3, li_4, li_5, li_6, li_7, li_8, li_9, li_10, li_11, li_12, li_13, li_14, li_15, li_16, li_17, li_18, li_19, li_20, li_21, li_22, li_23, li_24, li_25, li_26, li_27, li_28, li_29, li_30, li_31, li_32, li_33, li_34, li_35, li_36, li_37, li_38, li_39, li_40, li_41, li_42, li_43, li_44, li_45, li_48, li_57, li_59, li_61, li_63, li_64, li_65, li_72, li_90, li_97, li_99, li_101, li_102, li_103, li_104, li_105, li_108, li_109, li_111, li_114, li_115, li_116, li_117, li_118, li_120, li_121, li_122, li_216, li_240, li_255, li_256, li_380, li_400, li_480, li_511, li_512, li_729, li_1000, li_5184, li_10000, li_46656, li_65536, li_99999, li_1000000, ni_add, ni_mul, ni_sub, ni_ix, inb_t, ni_le_t, ni_le_f, ni_lt_t, ni_lt_f, ni_eq_t, ni_eq_f, ni_m1, ni_m1', ni_mn, ni_mn', Nat.add_sub_cancel, Nat.add_zero, zr_ne, zr_ni, zr_eq, gd_t, bd_s, if_true, if_false, Bool.not_true, Bool.not_false, ↓reduceIte, decide_false, decide_true]); (first | with_reducible refine Eq.trans gd_t ?_ | with_reducible refine Eq.trans bd_s ?_ | with_reducible refine Eq.trans bdp_s ?_ | with_reducible refine Eq.trans (if_pos trivial) ?_ | with_reducible refine Eq.trans (if_neg not_false) ?_ | with_reducible refine Eq.trans nmE ?_))));  (try simp (maxSteps := 1000000) (disch := omega) only [LV_kv hL, er_s15 hv, e2, li_0, li_1, li_2, li_3, li_4, li_5, li_6, li_7, li_8, li_9, li_10, li_11, li_12, li_13, li_14, li_15, li_16, li_17, li_18, li_19, li_20, li_21, li_22, li_23, li_24, li_25, li_26, li_27, li_28, li_29, li_30, li_31, li_32, li_33, li_34, li_35, li_36, li_37, li_38, li_39, li_40, li_41, li_42, li_43, li_44, li_45, li_48, li_57, li_59, li_61, li_63, li_64, li_65, li_72, li_90, li_97, li_99, li_101, li_102, li_103, li_104, li_105, li_108, li_109, li_111, li_114, li_115, li_116, li_117, li_118, li_120, li_121, li_122, li_216, li_240, li_255, li_256, li_380, li_400, li_480, li_511, li_512, li_729, li_1000, li_5184, li_10000, li_46656, li_65536, li_99999, li_1000000, ni_add, ni_mul, ni_sub, ni_ix, inb_t, ni_le_t, ni_le_f, ni_lt_t, ni_lt_f, ni_eq_t, ni_eq_f, ni_m1, ni_m1', ni_mn, ni_mn', Nat.add_sub_cancel, Nat.add_zero, zr_ne, zr_ni, zr_eq, gd_t, bd_s, if_true, if_false, Bool.not_true, Bool.not_false, ↓reduceIte, decide_false, decide_true]))
/-- OneEyeModel's sounds, the count known -/
theorem m_sounds2 {m c : Nat} {Z : zT} (hm : m ≤ 4) (h2 : Z 2 0 = nI m) (h7 : ∀ t, t < 4 → ∃ q, q ≤ 18 ∧ Z 7 (3 * t + 1) = nI q) : it1 (lX4_sounds_37 (nI c)) FU Z (nI 0) = some (snd m Z c) := by
  refine it1_up (Q := fun o => o = some (snd m Z c)) (N := m) (fun t Z' => Z' = snd t Z c) ?_ ?_ (F := FU) (FU_lt (by omega)) snd_0.symm
  · rintro k t _ ht rfl
    obtain ⟨q, hq, eq⟩ := h7 t (by omega)
    have e2 : snd t Z c 2 0 = nI m := by rw [snd_o (by omega) (by omega)]; exact h2
    have e7 : snd t Z c 7 (3 * t + 1) = nI q := by rw [snd_o (by omega) (by omega)]; exact eq
    refine ⟨_, ?_, rfl⟩
    unfold lX4_sounds_37
    by_cases hq3 : 3 ≤ q
    · rw [← snd_s21 hq3 hq eq]
      have e21 : snd t Z c 21 t = Z 21 t := snd_at21
      ((repeat (first | (with_reducible refine Eq.trans njE ?_; (try dsimp only)) | ((conv => lhs; arg 1; simp (maxSteps := 1000000) (disch := omega) only [m_hold_f (show t < 4 by omega) (show 1 < 3 by omega) e7 hq3 hq, e2, e21, li_0, li_1, li_2, li_3, li_4, li_5, li_6, li_7, li_8, li_9, li_10, li_11, li_12, li_13, li_14, li_15, li_16, li_17, li_18, li_19, li_20, li_21, li_22, li_23, li_24, li_25, li_26, li_27, li_28, li_29, li_30, li_31, li_32, li_33, li_34, li_35, li_36, li_37, li_38, li_39, li_40, li_41, li_42, li_43, li_44, li_45, li_48, li_57, li_59, li_61, li_63, li_64, li_65, li_72, li_90, li_97, li_99, li_101, li_102, li_103, li_104, li_105, li_108, li_109, li_111, li_114, li_115, li_116, li_117, li_118, li_120, li_121, li_122, li_216, li_240, li_255, li_256, li_380, li_400, li_480, li_511, li_512, li_729, li_1000, li_5184, li_10000, li_46656, li_65536, li_99999, li_1000000, ni_add, ni_mul, ni_sub, ni_ix, inb_t, ni_le_t, ni_le_f, ni_lt_t, ni_lt_f, ni_eq_t, ni_eq_f, ni_m1, ni_m1', ni_mn, ni_mn', Nat.add_sub_cancel, Nat.add_zero, zr_ne, zr_ni, zr_eq, gd_t, bd_s, if_true, if_false, Bool.not_true, Bool.not_false, ↓reduceIte, decide_false, decide_true]); (first | with_reducible refine Eq.trans gd_t ?_ | with_reducible refine Eq.trans bd_s ?_ | with_reducible refine Eq.trans bdp_s ?_ | with_reducible refine Eq.trans (if_pos trivial) ?_ | with_reducible refine Eq.trans (if_neg not_false) ?_ | with_reducible refine Eq.trans nmE ?_))));  (try simp (maxSteps := 1000000) (disch := omega) only [m_hold_f (show t < 4 by omega) (show 1 < 3 by omega) e7 hq3 hq, e2, e21, li_0, li_1, li_2, li_3, li_4, li_5, li_6, li_7, li_8, li_9, li_10, li_11, li_12, li_13, li_14, li_15, li_16, li_17, li_18, li_19, li_20, li_21, li_22, li_23, li_24, li_25, li_26, li_27, li_28, li_29, li_30, li_31, li_32, li_33, li_34, li_35, li_36, li_37, li_38, li_39, li_40, li_41, li_42, li_43, li_44, li_45, li_48, li_57, li_59, li_61, li_63, li_64, li_65, li_72, li_90, li_97, li_99, li_101, li_102, li_103, li_104, li_105, li_108, li_109, li_111, li_114, li_115, li_116, li_117, li_118, li_120, li_121, li_122, li_216, li_240, li_255, li_256, li_380, li_400, li_480, li_511, li_512, li_729, li_1000, li_5184, li_10000, li_46656, li_65536, li_99999, li_1000000, ni_add, ni_mul, ni_sub, ni_ix, inb_t, ni_le_t, ni_le_f, ni_lt_t, ni_lt_f, ni_eq_t, ni_eq_f, ni_m1, ni_m1', ni_mn, ni_mn', Nat.add_sub_cancel, Nat.add_zero, zr_ne, zr_ni, zr_eq, gd_t, bd_s, if_true, if_false, Bool.not_true, Bool.not_false, ↓reduceIte, decide_false, decide_true]))
    · rw [← snd_s20 (show q < 3 by omega) eq]
      have e20 : snd t Z c 20 (3 * t + q) = Z 20 (3 * t + q) := snd_at20 (by omega)
      ((repeat (first | (with_reducible refine Eq.trans njE ?_; (try dsimp only)) | ((conv => lhs; arg 1; simp (maxSteps := 1000000) (disch := omega) only [m_hold_t (show t < 4 by omega) (show 1 < 3 by omega) e7 (show q < 3 by omega), e2, e20, li_0, li_1, li_2, li_3, li_4, li_5, li_6, li_7, li_8, li_9, li_10, li_11, li_12, li_13, li_14, li_15, li_16, li_17, li_18, li_19, li_20, li_21, li_22, li_23, li_24, li_25, li_26, li_27, li_28, li_29, li_30, li_31, li_32, li_33, li_34, li_35, li_36, li_37, li_38, li_39, li_40, li_41, li_42, li_43, li_44, li_45, li_48, li_57, li_59, li_61, li_63, li_64, li_65, li_72, li_90, li_97, li_99, li_101, li_102, li_103, li_104, li_105, li_108, li_109, li_111, li_114, li_115, li_116, li_117, li_118, li_120, li_121, li_122, li_216, li_240, li_255, li_256, li_380, li_400, li_480, li_511, li_512, li_729, li_1000, li_5184, li_10000, li_46656, li_65536, li_99999, li_1000000, ni_add, ni_mul, ni_sub, ni_ix, inb_t, ni_le_t, ni_le_f, ni_lt_t, ni_lt_f, ni_eq_t, ni_eq_f, ni_m1, ni_m1', ni_mn, ni_mn', Nat.add_sub_cancel, Nat.add_zero, zr_ne, zr_ni, zr_eq, gd_t, bd_s, if_true, if_false, Bool.not_true, Bool.not_false, ↓reduceIte, decide_false, decide_true]); (first | with_reducible refine Eq.trans gd_t ?_ | with_reducible refine Eq.trans bd_s ?_ | with_reducible refine Eq.trans bdp_s ?_ | with_reducible refine Eq.trans (if_pos trivial) ?_ | with_reducible refine Eq.trans (if_neg not_false) ?_ | with_reducible refine Eq.trans nmE ?_))));  (try simp (maxSteps := 1000000) (disch := omega) only [m_hold_t (show t < 4 by omega) (show 1 < 3 by omega) e7 (show q < 3 by omega), e2, e20, li_0, li_1, li_2, li_3, li_4, li_5, li_6, li_7, li_8, li_9, li_10, li_11, li_12, li_13, li_14, li_15, li_16, li_17, li_18, li_19, li_20, li_21, li_22, li_23, li_24, li_25, li_26, li_27, li_28, li_29, li_30, li_31, li_32, li_33, li_34, li_35, li_36, li_37, li_38, li_39, li_40, li_41, li_42, li_43, li_44, li_45, li_48, li_57, li_59, li_61, li_63, li_64, li_65, li_72, li_90, li_97, li_99, li_101, li_102, li_103, li_104, li_105, li_108, li_109, li_111, li_114, li_115, li_116, li_117, li_118, li_120, li_121, li_122, li_216, li_240, li_255, li_256, li_380, li_400, li_480, li_511, li_512, li_729, li_1000, li_5184, li_10000, li_46656, li_65536, li_99999, li_1000000, ni_add, ni_mul, ni_sub, ni_ix, inb_t, ni_le_t, ni_le_f, ni_lt_t, ni_lt_f, ni_eq_t, ni_eq_f, ni_m1, ni_m1', ni_mn, ni_mn', Nat.add_sub_cancel, Nat.add_zero, zr_ne, zr_ni, zr_eq, gd_t, bd_s, if_true, if_false, Bool.not_true, Bool.not_false, ↓reduceIte, decide_false, decide_true]))
  · rintro k _ rfl
    unfold lX4_sounds_37
    have e2 : snd m Z c 2 0 = nI m := by rw [snd_o (by omega) (by omega)]; exact h2
    ((repeat (first | (with_reducible refine Eq.trans njE ?_; (try dsimp only)) | ((conv => lhs; arg 1; simp (maxSteps := 1000000) (disch := omega) only [e2, li_0, li_1, li_2, li_3, li_4, li_5, li_6, li_7, li_8, li_9, li_10, li_11, li_12, li_13, li_14, li_15, li_16, li_17, li_18, li_19, li_20, li_21, li_22, li_23, li_24, li_25, li_26, li_27, li_28, li_29, li_30, li_31, li_32, li_33, li_34, li_35, li_36, li_37, li_38, li_39, li_40, li_41, li_42, li_43, li_44, li_45, li_48, li_57, li_59, li_61, li_63, li_64, li_65, li_72, li_90, li_97, li_99, li_101, li_102, li_103, li_104, li_105, li_108, li_109, li_111, li_114, li_115, li_116, li_117, li_118, li_120, li_121, li_122, li_216, li_240, li_255, li_256, li_380, li_400, li_480, li_511, li_512, li_729, li_1000, li_5184, li_10000, li_46656, li_65536, li_99999, li_1000000, ni_add, ni_mul, ni_sub, ni_ix, inb_t, ni_le_t, ni_le_f, ni_lt_t, ni_lt_f, ni_eq_t, ni_eq_f, ni_m1, ni_m1', ni_mn, ni_mn', Nat.add_sub_cancel, Nat.add_zero, zr_ne, zr_ni, zr_eq, gd_t, bd_s, if_true, if_false, Bool.not_true, Bool.not_false, ↓reduceIte, decide_false, decide_true]); (first | with_reducible refine Eq.trans gd_t ?_ | with_reducible refine Eq.trans bd_s ?_ | with_reducible refine Eq.trans bdp_s ?_ | with_reducible refine Eq.trans (if_pos trivial) ?_ | with_reducible refine Eq.trans (if_neg not_false) ?_ | with_reducible refine Eq.trans nmE ?_))));  (try simp (maxSteps := 1000000) (disch := omega) only [e2, li_0, li_1, li_2, li_3, li_4, li_5, li_6, li_7, li_8, li_9, li_10, li_11, li_12, li_13, li_14, li_15, li_16, li_17, li_18, li_19, li_20, li_21, li_22, li_23, li_24, li_25, li_26, li_27, li_28, li_29, li_30, li_31, li_32, li_33, li_34, li_35, li_36, li_37, li_38, li_39, li_40, li_41, li_42, li_43, li_44, li_45, li_48, li_57, li_59, li_61, li_63, li_64, li_65, li_72, li_90, li_97, li_99, li_101, li_102, li_103, li_104, li_105, li_108, li_109, li_111, li_114, li_115, li_116, li_117, li_118, li_120, li_121, li_122, li_216, li_240, li_255, li_256, li_380, li_400, li_480, li_511, li_512, li_729, li_1000, li_5184, li_10000, li_46656, li_65536, li_99999, li_1000000, ni_add, ni_mul, ni_sub, ni_ix, inb_t, ni_le_t, ni_le_f, ni_lt_t, ni_lt_f, ni_eq_t, ni_eq_f, ni_m1, ni_m1', ni_mn, ni_mn', Nat.add_sub_cancel, Nat.add_zero, zr_ne, zr_ni, zr_eq, gd_t, bd_s, if_true, if_false, Bool.not_true, Bool.not_false, ↓reduceIte, decide_false, decide_true]))
/-- how many of the first noises sound now -/
def nsn (Z : zT) : Nat → Nat
  | 0 => 0
  | k + 1 => if Z 19 k = Z 16 0 then nsn Z k + 1 else nsn Z k
theorem nsn_le (Z : zT) (k : Nat) : nsn Z k ≤ k := by
  induction k with
  | zero => exact Nat.le_refl _
  | succ k ih =>
    show (if Z 19 k = Z 16 0 then nsn Z k + 1 else nsn Z k) ≤ k + 1
    split <;> omega
theorem m_sounds {m nn : Nat} {Z : zT} (hm : m ≤ 4) (hn : nn ≤ 20) (h18 : Z 18 0 = nI nn) (h2 : Z 2 0 = nI m) (h7 : ∀ t, t < 4 → ∃ q, q ≤ 18 ∧ Z 7 (3 * t + 1) = nI q) : fX4_sounds Z = some (snd m Z (nsn Z nn)) := by
  unfold fX4_sounds
  rw [njE, njE]
  refine it1_up (Q := fun o => o = some (snd m Z (nsn Z nn))) (N := nn) (s := nI 0) (fun t x => x = nI (nsn Z t)) ?_ ?_ (F := FU) (FU_lt (by omega)) rfl
  · rintro k t _ ht rfl
    have hle := nsn_le Z t
    refine ⟨_, ?_, rfl⟩
    unfold lX4_sounds_4
    show _ = k (nI (if Z 19 t = Z 16 0 then nsn Z t + 1 else nsn Z t)) _
    by_cases hc : Z 19 t = Z 16 0
    · rw [if_pos hc]
      ((repeat (first | (with_reducible refine Eq.trans njE ?_; (try dsimp only)) | ((conv => lhs; arg 1; simp (maxSteps := 1000000) (disch := omega) only [h18, hc, li_0, li_1, li_2, li_3, li_4, li_5, li_6, li_7, li_8, li_9, li_10, li_11, li_12, li_13, li_14, li_15, li_16, li_17, li_18, li_19, li_20, li_21, li_22, li_23, li_24, li_25, li_26, li_27, li_28, li_29, li_30, li_31, li_32, li_33, li_34, li_35, li_36, li_37, li_38, li_39, li_40, li_41, li_42, li_43, li_44, li_45, li_48, li_57, li_59, li_61, li_63, li_64, li_65, li_72, li_90, li_97, li_99, li_101, li_102, li_103, li_104, li_105, li_108, li_109, li_111, li_114, li_115, li_116, li_117, li_118, li_120, li_121, li_122, li_216, li_240, li_255, li_256, li_380, li_400, li_480, li_511, li_512, li_729, li_1000, li_5184, li_10000, li_46656, li_65536, li_99999, li_1000000, ni_add, ni_mul, ni_sub, ni_ix, inb_t, ni_le_t, ni_le_f, ni_lt_t, ni_lt_f, ni_eq_t, ni_eq_f, ni_m1, ni_m1', ni_mn, ni_mn', Nat.add_sub_cancel, Nat.add_zero, zr_ne, zr_ni, zr_eq, gd_t, bd_s, if_true, if_false, Bool.not_true, Bool.not_false, ↓reduceIte, decide_false, decide_true]); (first | with_reducible refine Eq.trans gd_t ?_ | with_reducible refine Eq.trans bd_s ?_ | with_reducible refine Eq.trans bdp_s ?_ | with_reducible refine Eq.trans (if_pos trivial) ?_ | with_reducible refine Eq.trans (if_neg not_false) ?_ | with_reducible refine Eq.trans nmE ?_))));  (try simp (maxSteps := 1000000) (disch := omega) only [h18, hc, li_0, li_1, li_2, li_3, li_4, li_5, li_6, li_7, li_8, li_9, li_10, li_11, li_12, li_13, li_14, li_15, li_16, li_17, li_18, li_19, li_20, li_21, li_22, li_23, li_24, li_25, li_26, li_27, li_28, li_29, li_30, li_31, li_32, li_33, li_34, li_35, li_36, li_37, li_38, li_39, li_40, li_41, li_42, li_43, li_44, li_45, li_48, li_57, li_59, li_61, li_63, li_64, li_65, li_72, li_90, li_97, li_99, li_101, li_102, li_103, li_104, li_105, li_108, li_109, li_111, li_114, li_115, li_116, li_117, li_118, li_120, li_121, li_122, li_216, li_240, li_255, li_256, li_380, li_400, li_480, li_511, li_512, li_729, li_1000, li_5184, li_10000, li_46656, li_65536, li_99999, li_1000000, ni_add, ni_mul, ni_sub, ni_ix, inb_t, ni_le_t, ni_le_f, ni_lt_t, ni_lt_f, ni_eq_t, ni_eq_f, ni_m1, ni_m1', ni_mn, ni_mn', Nat.add_sub_cancel, Nat.add_zero, zr_ne, zr_ni, zr_eq, gd_t, bd_s, if_true, if_false, Bool.not_true, Bool.not_false, ↓reduceIte, decide_false, decide_true]))
    · rw [if_neg hc]
      ((repeat (first | (with_reducible refine Eq.trans njE ?_; (try dsimp only)) | ((conv => lhs; arg 1; simp (maxSteps := 1000000) (disch := omega) only [h18, eq_false hc, li_0, li_1, li_2, li_3, li_4, li_5, li_6, li_7, li_8, li_9, li_10, li_11, li_12, li_13, li_14, li_15, li_16, li_17, li_18, li_19, li_20, li_21, li_22, li_23, li_24, li_25, li_26, li_27, li_28, li_29, li_30, li_31, li_32, li_33, li_34, li_35, li_36, li_37, li_38, li_39, li_40, li_41, li_42, li_43, li_44, li_45, li_48, li_57, li_59, li_61, li_63, li_64, li_65, li_72, li_90, li_97, li_99, li_101, li_102, li_103, li_104, li_105, li_108, li_109, li_111, li_114, li_115, li_116, li_117, li_118, li_120, li_121, li_122, li_216, li_240, li_255, li_256, li_380, li_400, li_480, li_511, li_512, li_729, li_1000, li_5184, li_10000, li_46656, li_65536, li_99999, li_1000000, ni_add, ni_mul, ni_sub, ni_ix, inb_t, ni_le_t, ni_le_f, ni_lt_t, ni_lt_f, ni_eq_t, ni_eq_f, ni_m1, ni_m1', ni_mn, ni_mn', Nat.add_sub_cancel, Nat.add_zero, zr_ne, zr_ni, zr_eq, gd_t, bd_s, if_true, if_false, Bool.not_true, Bool.not_false, ↓reduceIte, decide_false, decide_true]); (first | with_reducible refine Eq.trans gd_t ?_ | with_reducible refine Eq.trans bd_s ?_ | with_reducible refine Eq.trans bdp_s ?_ | with_reducible refine Eq.trans (if_pos trivial) ?_ | with_reducible refine Eq.trans (if_neg not_false) ?_ | with_reducible refine Eq.trans nmE ?_))));  (try simp (maxSteps := 1000000) (disch := omega) only [h18, eq_false hc, li_0, li_1, li_2, li_3, li_4, li_5, li_6, li_7, li_8, li_9, li_10, li_11, li_12, li_13, li_14, li_15, li_16, li_17, li_18, li_19, li_20, li_21, li_22, li_23, li_24, li_25, li_26, li_27, li_28, li_29, li_30, li_31, li_32, li_33, li_34, li_35, li_36, li_37, li_38, li_39, li_40, li_41, li_42, li_43, li_44, li_45, li_48, li_57, li_59, li_61, li_63, li_64, li_65, li_72, li_90, li_97, li_99, li_101, li_102, li_103, li_104, li_105, li_108, li_109, li_111, li_114, li_115, li_116, li_117, li_118, li_120, li_121, li_122, li_216, li_240, li_255, li_256, li_380, li_400, li_480, li_511, li_512, li_729, li_1000, li_5184, li_10000, li_46656, li_65536, li_99999, li_1000000, ni_add, ni_mul, ni_sub, ni_ix, inb_t, ni_le_t, ni_le_f, ni_lt_t, ni_lt_f, ni_eq_t, ni_eq_f, ni_m1, ni_m1', ni_mn, ni_mn', Nat.add_sub_cancel, Nat.add_zero, zr_ne, zr_ni, zr_eq, gd_t, bd_s, if_true, if_false, Bool.not_true, Bool.not_false, ↓reduceIte, decide_false, decide_true]))
  · rintro k _ rfl
    unfold lX4_sounds_4
    rw [if_pos (show Z 18 0 ≤ nI nn from by rw [h18]; exact nI_le (Nat.le_refl _) (by omega))]
    exact m_sounds2 hm h2 h7
