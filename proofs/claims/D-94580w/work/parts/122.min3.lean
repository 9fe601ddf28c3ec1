/-! LAYER 2: minutes: a three goes on -/
theorem ni_ne {p q : Nat} (h : p ≠ q) (hp : p < 2147483648) (hq : q < 2147483648) : nI p ≠ nI q := fun e => h ((nI_eq hp hq).mp e)
theorem go {a v w n m nn nl nw : Nat} {S : sT} {P : pT} {Y I Z : zT} {Y1 Z1 : zT} {t q x y : Nat} (hR : Rel a v w S P Y I n Z m nn nl nw) (ht : t < m) (hY : ∀ f i, ¬ chg t f i → Y1 f i = Y f i) (hZ : ∀ f i, ¬ chg t f i → Z1 f i = Z f i)
    (e1 : Y1 1 0 = Z1 1 0) (e5 : Y1 5 t = Z1 5 t) (e6 : Y1 6 t = Z1 6 t) (e7 : ∀ k, k < 3 → Y1 7 (3 * t + k) = Z1 7 (3 * t + k)) (b7 : ∀ k, k < 3 → ∃ q, q ≤ 18 ∧ Z1 7 (3 * t + k) = nI q)
    (y29 : Y1 29 t = nI (q + 1)) (z29 : Z1 29 t = nI q) (hq : q ≤ 99) (z30 : Z1 30 t = nI x) (z31 : Z1 31 t = nI y)
    (hd : (Z1 28 t = nI 1 ∧ Y1 28 t = nI 0 ∧ Y1 30 t = nI x ∧ Y1 31 t = nI y ∧ x ≤ 2 ∧ y ≤ 2 ∧ Z1 7 (3 * t + x) = nI 3 ∧ ∀ k, k < 3 → Z1 7 (3 * t + k) = nI 3 → k = x) ∨
      (Z1 28 t = nI 2 ∧ Y1 28 t = nI 4 ∧ x ≤ 99 ∧ y ≤ 11 ∧ ∀ k, k < 3 → Z1 7 (3 * t + k) ≠ nI 3) ∨
      (Z1 28 t = nI 3 ∧ Y1 28 t = nI 5 ∧ Y1 30 t = nI x ∧ Y1 31 t = nI y ∧ x ≤ 2 ∧ y ≤ 8 ∧ ∀ k, k < 3 → Z1 7 (3 * t + k) ≠ nI 3)) :
    ∃ Y' Z', fX2_goesOn S P (enc a Y1 I) (aT v t) v = some (enc a Y' I) ∧ (if Z1 29 t = nI 0 then bd (fX4_ends Z1 (nI t)) (fun u => some u) else some Z1) = some Z' ∧ Rel a v w S P Y' I n Z' m nn nl nw ∧ Z' 16 0 = Z1 16 0 := by
  obtain ⟨⟨hv, hw, hA, h4, h5, hL, hM⟩, hn, hX, hN, hB, hC, hP, hK⟩ := id hR
  have hm4 : m ≤ 4 := hN.2.1.1
  have hn20 : nn ≤ 20 := hN.2.1.2.1
  have hl99 : nl ≤ 99 := hN.2.1.2.2.1
  have hw9 : nw ≤ 9 := hN.2.1.2.2.2
  have ht4 : t < 4 := by omega
  by_cases hq0 : q = 0
  · subst hq0
    rcases hd with ⟨d1, d2, d3, d4, hx, hy, d5, d6⟩ | ⟨d1, d2, hx, hy, d6⟩ | ⟨d1, d2, d3, d4, hx, hy, d6⟩
    · obtain ⟨Yh, Zh, r, g1, g2, g3, g4, g5, g6, g7, g8, g9, g10, g11, g12⟩ := g_hands (a := a) (Y := zset Y1 29 t (nI 0)) (I := I) (Z := Z1) (x := x) (y := y) hv hL ht4 (by omega) hy (by rw [zr_ne (by omega)]; exact e1) (by rw [zr_ne (by omega), hY 4 t (by unfold chg; omega), hZ 4 t (by unfold chg; omega)]; exact VN_4 hN ht4) (by rw [zr_ne (by omega)]; exact e5) (by rw [zr_ne (by omega)]; exact e6) (by rw [zr_ne (by omega)]; exact d3) z30 (by rw [zr_ne (by omega)]; exact d4) z31 (by rw [hZ 4 t (by unfold chg; omega)]; exact MB_at hB 4 t (by decide))
      have y28 : Yh 28 t = nI 0 := by rw [g5 28 t (by omega), zr_ne (by omega)]; exact d2
      have y29' : Yh 29 t = nI 0 := by rw [g5 29 t (by omega), zr_eq]
      refine ⟨Yh, zset Zh 28 t (nI 0), ?_, ?_, ?_⟩
      · unfold fX2_goesOn
        simp (maxSteps := 1000000) (disch := omega) only [LV_kT hL, LV_pW hL, er_t12 hv, ew_t12 hv, er_t9 hv, y29, d2, g1, y28, li_0, li_1, li_2, li_3, li_4, li_5, li_6, li_7, li_8, li_9, li_10, li_11, li_12, li_13, li_14, li_15, li_16, li_17, li_18, li_19, li_20, li_21, li_22, li_23, li_24, li_25, li_26, li_27, li_28, li_29, li_30, li_31, li_32, li_33, li_34, li_35, li_36, li_37, li_38, li_39, li_40, li_41, li_42, li_43, li_44, li_45, li_48, li_57, li_59, li_61, li_63, li_64, li_65, li_72, li_90, li_97, li_99, li_101, li_102, li_103, li_104, li_105, li_108, li_109, li_111, li_114, li_115, li_116, li_117, li_118, li_120, li_121, li_122, li_216, li_240, li_255, li_256, li_380, li_400, li_480, li_511, li_512, li_729, li_1000, li_5184, li_10000, li_46656, li_65536, li_99999, li_1000000, ni_add, ni_mul, ni_sub, ni_ix, inb_t, ni_le_t, ni_le_f, ni_lt_t, ni_lt_f, ni_eq_t, ni_eq_f, ni_m1, ni_m1', ni_mn, ni_mn', Nat.add_sub_cancel, Nat.add_zero, gd_t, bd_s, bdp_s, nmE, njE, if_true, if_false, Bool.not_true, Bool.not_false, zr_ne, zr_ni, zr_eq, decide_false, decide_true]
      · unfold fX4_ends
        simp (maxSteps := 1000000) (disch := omega) only [z29, d1, g2, li_0, li_1, li_2, li_3, li_4, li_5, li_6, li_7, li_8, li_9, li_10, li_11, li_12, li_13, li_14, li_15, li_16, li_17, li_18, li_19, li_20, li_21, li_22, li_23, li_24, li_25, li_26, li_27, li_28, li_29, li_30, li_31, li_32, li_33, li_34, li_35, li_36, li_37, li_38, li_39, li_40, li_41, li_42, li_43, li_44, li_45, li_48, li_57, li_59, li_61, li_63, li_64, li_65, li_72, li_90, li_97, li_99, li_101, li_102, li_103, li_104, li_105, li_108, li_109, li_111, li_114, li_115, li_116, li_117, li_118, li_120, li_121, li_122, li_216, li_240, li_255, li_256, li_380, li_400, li_480, li_511, li_512, li_729, li_1000, li_5184, li_10000, li_46656, li_65536, li_99999, li_1000000, ni_add, ni_mul, ni_sub, ni_ix, inb_t, ni_le_t, ni_le_f, ni_lt_t, ni_lt_f, ni_eq_t, ni_eq_f, ni_m1, ni_m1', ni_mn, ni_mn', Nat.add_sub_cancel, Nat.add_zero, gd_t, bd_s, bdp_s, nmE, njE, if_true, if_false, Bool.not_true, Bool.not_false, zr_ne, zr_ni, zr_eq, decide_false, decide_true]
      · refine ⟨R_three ht hR (fun f i h => ?_) (fun f i h => ?_) ?_ ?_ ?_ ?_ (fun k hk => ?_) (fun k hk => ?_) ?_ ?_ ?_ ?_ ?_ ?_ ?_ ?_ (fun k hk h3 => ?_), ?_⟩
        · rw [g5 f i (by unfold chg at h; omega), zset_app, if_neg (by unfold chg at h; omega)]
          exact hY f i h
        · rw [zset_app, if_neg (by unfold chg at h; omega), g6 f i (by unfold chg at h; omega)]
          exact hZ f i h
        · rw [zr_ne (by omega)]; exact g7
        · rw [zr_ne (by omega)]; exact g8
        · rw [zr_ne (by omega)]; exact g9
        · rw [zr_ne (by omega), y29', g6 29 t (by omega)]; exact z29.symm
        · rw [zr_ne (by omega)]
          by_cases e : k = x
          · subst e; rw [g10, g11]
          · rw [g5 7 _ (by omega), g6 7 _ (by omega), zr_ne (by omega)]; exact e7 k hk
        · rw [zr_ne (by omega)]
          by_cases e : k = x
          · subst e; exact ⟨r, g3, g11⟩
          · rw [g6 7 _ (by omega)]; exact b7 k hk
        · exact ⟨0, by omega, zr_eq⟩
        · refine ⟨0, by omega, ?_⟩
          rw [zr_ne (by omega), g6 29 t (by omega)]; exact z29
        · refine ⟨x, by omega, ?_⟩
          rw [zr_ne (by omega), g6 30 t (by omega)]; exact z30
        · refine ⟨y, by omega, ?_⟩
          rw [zr_ne (by omega), g6 31 t (by omega)]; exact z31
        · rw [zr_eq]
          exact ⟨fun h => absurd h (by decide), fun h => absurd h (by decide), fun h => absurd h (by decide)⟩
        · rw [zr_eq, zr_ne (by omega), g6 29 t (by omega), z29]
        · rw [zr_eq]; exact fun h => absurd h (by decide)
        · rw [zr_eq]; exact fun h => absurd h (by decide)
        · exfalso
          rw [zr_ne (by omega)] at h3
          by_cases e : k = x
          · subst e
            rw [g11] at h3
            exact ni_ne g4 (by omega) (by omega) h3
          · rw [g6 7 _ (by omega)] at h3
            exact e (d6 k hk h3)
        · first | rfl | (rw [zr_ne (by omega), g6 16 0 (by omega)]) | (simp (maxSteps := 1000000) (disch := omega) only [zr_ne])
    · refine ⟨zset Y1 29 t (nI 0), zset Z1 28 t (nI 0), ?_, ?_, ?_⟩
      · unfold fX2_goesOn
        simp (maxSteps := 1000000) (disch := omega) only [LV_kT hL, LV_pW hL, er_t12 hv, ew_t12 hv, er_t9 hv, y29, d2, li_0, li_1, li_2, li_3, li_4, li_5, li_6, li_7, li_8, li_9, li_10, li_11, li_12, li_13, li_14, li_15, li_16, li_17, li_18, li_19, li_20, li_21, li_22, li_23, li_24, li_25, li_26, li_27, li_28, li_29, li_30, li_31, li_32, li_33, li_34, li_35, li_36, li_37, li_38, li_39, li_40, li_41, li_42, li_43, li_44, li_45, li_48, li_57, li_59, li_61, li_63, li_64, li_65, li_72, li_90, li_97, li_99, li_101, li_102, li_103, li_104, li_105, li_108, li_109, li_111, li_114, li_115, li_116, li_117, li_118, li_120, li_121, li_122, li_216, li_240, li_255, li_256, li_380, li_400, li_480, li_511, li_512, li_729, li_1000, li_5184, li_10000, li_46656, li_65536, li_99999, li_1000000, ni_add, ni_mul, ni_sub, ni_ix, inb_t, ni_le_t, ni_le_f, ni_lt_t, ni_lt_f, ni_eq_t, ni_eq_f, ni_m1, ni_m1', ni_mn, ni_mn', Nat.add_sub_cancel, Nat.add_zero, gd_t, bd_s, bdp_s, nmE, njE, if_true, if_false, Bool.not_true, Bool.not_false, zr_ne, zr_ni, zr_eq, decide_false, decide_true]
      · unfold fX4_ends
        simp (maxSteps := 1000000) (disch := omega) only [z29, d1, li_0, li_1, li_2, li_3, li_4, li_5, li_6, li_7, li_8, li_9, li_10, li_11, li_12, li_13, li_14, li_15, li_16, li_17, li_18, li_19, li_20, li_21, li_22, li_23, li_24, li_25, li_26, li_27, li_28, li_29, li_30, li_31, li_32, li_33, li_34, li_35, li_36, li_37, li_38, li_39, li_40, li_41, li_42, li_43, li_44, li_45, li_48, li_57, li_59, li_61, li_63, li_64, li_65, li_72, li_90, li_97, li_99, li_101, li_102, li_103, li_104, li_105, li_108, li_109, li_111, li_114, li_115, li_116, li_117, li_118, li_120, li_121, li_122, li_216, li_240, li_255, li_256, li_380, li_400, li_480, li_511, li_512, li_729, li_1000, li_5184, li_10000, li_46656, li_65536, li_99999, li_1000000, ni_add, ni_mul, ni_sub, ni_ix, inb_t, ni_le_t, ni_le_f, ni_lt_t, ni_lt_f, ni_eq_t, ni_eq_f, ni_m1, ni_m1', ni_mn, ni_mn', Nat.add_sub_cancel, Nat.add_zero, gd_t, bd_s, bdp_s, nmE, njE, if_true, if_false, Bool.not_true, Bool.not_false, zr_ne, zr_ni, zr_eq, decide_false, decide_true]
      · refine ⟨R_three ht hR (fun f i h => ?_) (fun f i h => ?_) ?_ ?_ ?_ ?_ (fun k hk => ?_) (fun k hk => ?_) ?_ ?_ ?_ ?_ ?_ ?_ ?_ ?_ (fun k hk h3 => ?_), ?_⟩
        · rw [zset_app, if_neg (by unfold chg at h; omega)]; exact hY f i h
        · rw [zset_app, if_neg (by unfold chg at h; omega)]; exact hZ f i h
        · rw [zr_ne (by omega), zr_ne (by omega)]; exact e1
        · rw [zr_ne (by omega), zr_ne (by omega)]; exact e5
        · rw [zr_ne (by omega), zr_ne (by omega)]; exact e6
        · rw [zr_eq, zr_ne (by omega)]; exact z29.symm
        · rw [zr_ne (by omega), zr_ne (by omega)]; exact e7 k hk
        · rw [zr_ne (by omega)]; exact b7 k hk
        · exact ⟨0, by omega, zr_eq⟩
        · exact ⟨0, by omega, by rw [zr_ne (by omega)]; exact z29⟩
        · exact ⟨x, hx, by rw [zr_ne (by omega)]; exact z30⟩
        · exact ⟨y, hy, by rw [zr_ne (by omega)]; exact z31⟩
        · rw [zr_eq]
          exact ⟨fun h => absurd h (by decide), fun h => absurd h (by decide), fun h => absurd h (by decide)⟩
        · rw [zr_eq, zr_ne (by omega), z29]
        · rw [zr_eq]; exact fun h => absurd h (by decide)
        · rw [zr_eq]; exact fun h => absurd h (by decide)
        · exfalso
          rw [zr_ne (by omega)] at h3
          exact d6 k hk h3
        · first | rfl | (rw [zr_ne (by omega), g6 16 0 (by omega)]) | (simp (maxSteps := 1000000) (disch := omega) only [zr_ne])
    · have hfr := fr_le (Z1 7 (3 * t + 0)) (Z1 7 (3 * t + 1)) (Z1 7 (3 * t + 2))
      by_cases hw3 : Z1 7 (3 * t + x) = nI (10 + y)
      · refine ⟨zset (zset Y1 29 t (nI 0)) 7 (3 * t + x) (nI (fr (Z1 7 (3 * t + 0)) (Z1 7 (3 * t + 1)) (Z1 7 (3 * t + 2)))), zset (zset (zset Z1 28 t (nI 0)) 7 (3 * t + x) (nI (fr (Z1 7 (3 * t + 0)) (Z1 7 (3 * t + 1)) (Z1 7 (3 * t + 2))))) 28 t (nI 0), ?_, ?_, ?_⟩
        · unfold fX2_goesOn
          simp (maxSteps := 1000000) (disch := omega) only [LV_kT hL, LV_pW hL, LV_kW hL, LV_nW hL, er_w hv, ew_w hv, er_t12 hv, ew_t12 hv, er_t9 hv, er_t10 hv, er_t11 hv, e_free hv hL, y29, d2, d3, d4, e7, show Y1 7 (3 * t) = Z1 7 (3 * t) from e7 0 (by omega), hw3, li_0, li_1, li_2, li_3, li_4, li_5, li_6, li_7, li_8, li_9, li_10, li_11, li_12, li_13, li_14, li_15, li_16, li_17, li_18, li_19, li_20, li_21, li_22, li_23, li_24, li_25, li_26, li_27, li_28, li_29, li_30, li_31, li_32, li_33, li_34, li_35, li_36, li_37, li_38, li_39, li_40, li_41, li_42, li_43, li_44, li_45, li_48, li_57, li_59, li_61, li_63, li_64, li_65, li_72, li_90, li_97, li_99, li_101, li_102, li_103, li_104, li_105, li_108, li_109, li_111, li_114, li_115, li_116, li_117, li_118, li_120, li_121, li_122, li_216, li_240, li_255, li_256, li_380, li_400, li_480, li_511, li_512, li_729, li_1000, li_5184, li_10000, li_46656, li_65536, li_99999, li_1000000, ni_add, ni_mul, ni_sub, ni_ix, inb_t, ni_le_t, ni_le_f, ni_lt_t, ni_lt_f, ni_eq_t, ni_eq_f, ni_m1, ni_m1', ni_mn, ni_mn', Nat.add_sub_cancel, Nat.add_zero, gd_t, bd_s, bdp_s, nmE, njE, if_true, if_false, Bool.not_true, Bool.not_false, zr_ne, zr_ni, zr_eq, decide_false, decide_true]
        · unfold fX4_ends
          rw [m_feels ht4 (by omega) hy z30 z31, if_pos hw3]
          simp (maxSteps := 1000000) (disch := omega) only [z29, d1, li_0, li_1, li_2, li_3, li_4, li_5, li_6, li_7, li_8, li_9, li_10, li_11, li_12, li_13, li_14, li_15, li_16, li_17, li_18, li_19, li_20, li_21, li_22, li_23, li_24, li_25, li_26, li_27, li_28, li_29, li_30, li_31, li_32, li_33, li_34, li_35, li_36, li_37, li_38, li_39, li_40, li_41, li_42, li_43, li_44, li_45, li_48, li_57, li_59, li_61, li_63, li_64, li_65, li_72, li_90, li_97, li_99, li_101, li_102, li_103, li_104, li_105, li_108, li_109, li_111, li_114, li_115, li_116, li_117, li_118, li_120, li_121, li_122, li_216, li_240, li_255, li_256, li_380, li_400, li_480, li_511, li_512, li_729, li_1000, li_5184, li_10000, li_46656, li_65536, li_99999, li_1000000, ni_add, ni_mul, ni_sub, ni_ix, inb_t, ni_le_t, ni_le_f, ni_lt_t, ni_lt_f, ni_eq_t, ni_eq_f, ni_m1, ni_m1', ni_mn, ni_mn', Nat.add_sub_cancel, Nat.add_zero, gd_t, bd_s, bdp_s, nmE, njE, if_true, if_false, Bool.not_true, Bool.not_false, zr_ne, zr_ni, zr_eq, decide_false, decide_true]
        · refine ⟨R_three ht hR (fun f i h => ?_) (fun f i h => ?_) ?_ ?_ ?_ ?_ (fun k hk => ?_) (fun k hk => ?_) ?_ ?_ ?_ ?_ ?_ ?_ ?_ ?_ (fun k hk h3 => ?_), ?_⟩
          · rw [zset_app, if_neg (by unfold chg at h; omega), zset_app, if_neg (by unfold chg at h; omega)]; exact hY f i h
          · rw [zset_app, if_neg (by unfold chg at h; omega), zset_app, if_neg (by unfold chg at h; omega), zset_app, if_neg (by unfold chg at h; omega)]; exact hZ f i h
          · simp (maxSteps := 1000000) (disch := omega) only [zr_ne]; exact e1
          · simp (maxSteps := 1000000) (disch := omega) only [zr_ne]; exact e5
          · simp (maxSteps := 1000000) (disch := omega) only [zr_ne]; exact e6
          · simp (maxSteps := 1000000) (disch := omega) only [zr_ne, zr_eq]; exact z29.symm
          · by_cases e : k = x
            · subst e; simp (maxSteps := 1000000) (disch := omega) only [zr_ne, zr_eq]
            · simp (maxSteps := 1000000) (disch := omega) only [zr_ne, zr_ni]; exact e7 k hk
          · by_cases e : k = x
            · subst e; exact ⟨_, Nat.le_trans hfr (by omega), by simp (maxSteps := 1000000) (disch := omega) only [zr_ne, zr_eq]⟩
            · simp (maxSteps := 1000000) (disch := omega) only [zr_ne, zr_ni]; exact b7 k hk
          · exact ⟨0, by omega, zr_eq⟩
          · exact ⟨0, by omega, by simp (maxSteps := 1000000) (disch := omega) only [zr_ne]; exact z29⟩
          · exact ⟨x, by omega, by simp (maxSteps := 1000000) (disch := omega) only [zr_ne]; exact z30⟩
          · exact ⟨y, by omega, by simp (maxSteps := 1000000) (disch := omega) only [zr_ne]; exact z31⟩
          · rw [zr_eq]
            exact ⟨fun h => absurd h (by decide), fun h => absurd h (by decide), fun h => absurd h (by decide)⟩
          · simp (maxSteps := 1000000) (disch := omega) only [zr_ne, zr_eq, z29]
          · rw [zr_eq]; exact fun h => absurd h (by decide)
          · rw [zr_eq]; exact fun h => absurd h (by decide)
          · exfalso
            by_cases e : k = x
            · subst e
              simp (maxSteps := 1000000) (disch := omega) only [zr_ne, zr_eq] at h3
              exact ni_ne (by omega) (by omega) (by omega) h3
            · simp (maxSteps := 1000000) (disch := omega) only [zr_ne, zr_ni] at h3
              exact d6 k hk h3
          · first | rfl | (rw [zr_ne (by omega), g6 16 0 (by omega)]) | (simp (maxSteps := 1000000) (disch := omega) only [zr_ne])
      · refine ⟨zset Y1 29 t (nI 0), zset (zset Z1 28 t (nI 0)) 28 t (nI 0), ?_, ?_, ?_⟩
        · unfold fX2_goesOn
          simp (maxSteps := 1000000) (disch := omega) only [LV_kT hL, LV_pW hL, LV_kW hL, LV_nW hL, er_w hv, ew_w hv, er_t12 hv, ew_t12 hv, er_t9 hv, er_t10 hv, er_t11 hv, y29, d2, d3, d4, e7, eq_false hw3, li_0, li_1, li_2, li_3, li_4, li_5, li_6, li_7, li_8, li_9, li_10, li_11, li_12, li_13, li_14, li_15, li_16, li_17, li_18, li_19, li_20, li_21, li_22, li_23, li_24, li_25, li_26, li_27, li_28, li_29, li_30, li_31, li_32, li_33, li_34, li_35, li_36, li_37, li_38, li_39, li_40, li_41, li_42, li_43, li_44, li_45, li_48, li_57, li_59, li_61, li_63, li_64, li_65, li_72, li_90, li_97, li_99, li_101, li_102, li_103, li_104, li_105, li_108, li_109, li_111, li_114, li_115, li_116, li_117, li_118, li_120, li_121, li_122, li_216, li_240, li_255, li_256, li_380, li_400, li_480, li_511, li_512, li_729, li_1000, li_5184, li_10000, li_46656, li_65536, li_99999, li_1000000, ni_add, ni_mul, ni_sub, ni_ix, inb_t, ni_le_t, ni_le_f, ni_lt_t, ni_lt_f, ni_eq_t, ni_eq_f, ni_m1, ni_m1', ni_mn, ni_mn', Nat.add_sub_cancel, Nat.add_zero, gd_t, bd_s, bdp_s, nmE, njE, if_true, if_false, Bool.not_true, Bool.not_false, zr_ne, zr_ni, zr_eq, decide_false, decide_true]
        · unfold fX4_ends
          rw [m_feels ht4 (by omega) hy z30 z31, if_neg hw3]
          simp (maxSteps := 1000000) (disch := omega) only [z29, d1, li_0, li_1, li_2, li_3, li_4, li_5, li_6, li_7, li_8, li_9, li_10, li_11, li_12, li_13, li_14, li_15, li_16, li_17, li_18, li_19, li_20, li_21, li_22, li_23, li_24, li_25, li_26, li_27, li_28, li_29, li_30, li_31, li_32, li_33, li_34, li_35, li_36, li_37, li_38, li_39, li_40, li_41, li_42, li_43, li_44, li_45, li_48, li_57, li_59, li_61, li_63, li_64, li_65, li_72, li_90, li_97, li_99, li_101, li_102, li_103, li_104, li_105, li_108, li_109, li_111, li_114, li_115, li_116, li_117, li_118, li_120, li_121, li_122, li_216, li_240, li_255, li_256, li_380, li_400, li_480, li_511, li_512, li_729, li_1000, li_5184, li_10000, li_46656, li_65536, li_99999, li_1000000, ni_add, ni_mul, ni_sub, ni_ix, inb_t, ni_le_t, ni_le_f, ni_lt_t, ni_lt_f, ni_eq_t, ni_eq_f, ni_m1, ni_m1', ni_mn, ni_mn', Nat.add_sub_cancel, Nat.add_zero, gd_t, bd_s, bdp_s, nmE, njE, if_true, if_false, Bool.not_true, Bool.not_false, zr_ne, zr_ni, zr_eq, decide_false, decide_true]
        · refine ⟨R_three ht hR (fun f i h => ?_) (fun f i h => ?_) ?_ ?_ ?_ ?_ (fun k hk => ?_) (fun k hk => ?_) ?_ ?_ ?_ ?_ ?_ ?_ ?_ ?_ (fun k hk h3 => ?_), ?_⟩
          · rw [zset_app, if_neg (by unfold chg at h; omega)]; exact hY f i h
          · rw [zset_app, if_neg (by unfold chg at h; omega), zset_app, if_neg (by unfold chg at h; omega)]; exact hZ f i h
          · simp (maxSteps := 1000000) (disch := omega) only [zr_ne]; exact e1
          · simp (maxSteps := 1000000) (disch := omega) only [zr_ne]; exact e5
          · simp (maxSteps := 1000000) (disch := omega) only [zr_ne]; exact e6
          · simp (maxSteps := 1000000) (disch := omega) only [zr_ne, zr_eq]; exact z29.symm
          · simp (maxSteps := 1000000) (disch := omega) only [zr_ne]; exact e7 k hk
          · simp (maxSteps := 1000000) (disch := omega) only [zr_ne]; exact b7 k hk
          · exact ⟨0, by omega, zr_eq⟩
          · exact ⟨0, by omega, by simp (maxSteps := 1000000) (disch := omega) only [zr_ne]; exact z29⟩
          · exact ⟨x, by omega, by simp (maxSteps := 1000000) (disch := omega) only [zr_ne]; exact z30⟩
          · exact ⟨y, by omega, by simp (maxSteps := 1000000) (disch := omega) only [zr_ne]; exact z31⟩
          · rw [zr_eq]
            exact ⟨fun h => absurd h (by decide), fun h => absurd h (by decide), fun h => absurd h (by decide)⟩
          · simp (maxSteps := 1000000) (disch := omega) only [zr_ne, zr_eq, z29]
          · rw [zr_eq]; exact fun h => absurd h (by decide)
          · rw [zr_eq]; exact fun h => absurd h (by decide)
          · exfalso
            simp (maxSteps := 1000000) (disch := omega) only [zr_ne] at h3
            exact d6 k hk h3
          · first | rfl | (rw [zr_ne (by omega), g6 16 0 (by omega)]) | (simp (maxSteps := 1000000) (disch := omega) only [zr_ne])
  · have hz28 : Z1 28 t ≠ nI 0 := by
      rcases hd with h | h | h
      · rw [h.1]; decide
      · rw [h.1]; decide
      · rw [h.1]; decide
    refine ⟨zset Y1 29 t (nI q), Z1, ?_, ?_, ?_⟩
    · unfold fX2_goesOn
      simp (maxSteps := 1000000) (disch := omega) only [LV_kT hL, LV_pW hL, er_t12 hv, ew_t12 hv, er_t9 hv, y29, li_0, li_1, li_2, li_3, li_4, li_5, li_6, li_7, li_8, li_9, li_10, li_11, li_12, li_13, li_14, li_15, li_16, li_17, li_18, li_19, li_20, li_21, li_22, li_23, li_24, li_25, li_26, li_27, li_28, li_29, li_30, li_31, li_32, li_33, li_34, li_35, li_36, li_37, li_38, li_39, li_40, li_41, li_42, li_43, li_44, li_45, li_48, li_57, li_59, li_61, li_63, li_64, li_65, li_72, li_90, li_97, li_99, li_101, li_102, li_103, li_104, li_105, li_108, li_109, li_111, li_114, li_115, li_116, li_117, li_118, li_120, li_121, li_122, li_216, li_240, li_255, li_256, li_380, li_400, li_480, li_511, li_512, li_729, li_1000, li_5184, li_10000, li_46656, li_65536, li_99999, li_1000000, ni_add, ni_mul, ni_sub, ni_ix, inb_t, ni_le_t, ni_le_f, ni_lt_t, ni_lt_f, ni_eq_t, ni_eq_f, ni_m1, ni_m1', ni_mn, ni_mn', Nat.add_sub_cancel, Nat.add_zero, gd_t, bd_s, bdp_s, nmE, njE, if_true, if_false, Bool.not_true, Bool.not_false, zr_ne, zr_ni, zr_eq, decide_false, decide_true]
    · rw [z29]; exact if_neg (ni_ne hq0 (by omega) (by omega))
    · refine ⟨R_three ht hR (fun f i h => ?_) hZ ?_ ?_ ?_ ?_ (fun k hk => ?_) b7 ?_ ⟨q, hq, z29⟩ ?_ ?_ ?_ ?_ ?_ ?_ (fun k hk h3 => ?_), ?_⟩
      · rw [zset_app, if_neg (by unfold chg at h; omega)]; exact hY f i h
      · rw [zr_ne (by omega)]; exact e1
      · rw [zr_ne (by omega)]; exact e5
      · rw [zr_ne (by omega)]; exact e6
      · rw [zr_eq]; exact z29.symm
      · rw [zr_ne (by omega)]; exact e7 k hk
      · rcases hd with h | h | h
        · exact ⟨1, by omega, h.1⟩
        · exact ⟨2, by omega, h.1⟩
        · exact ⟨3, by omega, h.1⟩
      · refine ⟨x, ?_, z30⟩
        rcases hd with h | h | h
        · have := h.2.2.2.2.1; omega
        · exact h.2.2.1
        · have := h.2.2.2.2.1; omega
      · refine ⟨y, ?_, z31⟩
        rcases hd with h | h | h
        · have := h.2.2.2.2.2.1; omega
        · exact h.2.2.2.1
        · have := h.2.2.2.2.2.1; omega
      · rw [zr_ne (show 28 ≠ 29 by omega), zr_ne (show 30 ≠ 29 by omega), zr_ne (show 31 ≠ 29 by omega)]
        rcases hd with h | h | h
        · refine ⟨fun _ => ⟨h.2.1, by rw [h.2.2.1, z30], by rw [h.2.2.2.1, z31]⟩, fun k => ?_, fun k => ?_⟩
          · rw [h.1] at k; exact absurd k (by decide)
          · rw [h.1] at k; exact absurd k (by decide)
        · refine ⟨fun k => ?_, fun _ => h.2.1, fun k => ?_⟩
          · rw [h.1] at k; exact absurd k (by decide)
          · rw [h.1] at k; exact absurd k (by decide)
        · refine ⟨fun k => ?_, fun k => ?_, fun _ => ⟨h.2.1, by rw [h.2.2.1, z30], by rw [h.2.2.2.1, z31]⟩⟩
          · rw [h.1] at k; exact absurd k (by decide)
          · rw [h.1] at k; exact absurd k (by decide)
      · rw [z29]
        exact ⟨fun h => absurd h hz28, fun h => absurd h (ni_ne hq0 (by omega) (by omega))⟩
      · intro k
        rcases hd with h | h | h
        · exact ⟨x, y, h.2.2.2.2.1, h.2.2.2.2.2.1, z30, z31, h.2.2.2.2.2.2.1⟩
        · rw [h.1] at k; exact absurd k (by decide)
        · rw [h.1] at k; exact absurd k (by decide)
      · intro k
        rcases hd with h | h | h
        · rw [h.1] at k; exact absurd k (by decide)
        · rw [h.1] at k; exact absurd k (by decide)
        · exact ⟨x, y, h.2.2.2.2.1, h.2.2.2.2.2.1, z30, z31⟩
      · rcases hd with h | h | h
        · refine ⟨h.1, ?_⟩
          rw [h.2.2.2.2.2.2.2 k hk h3]; exact z30
        · exact absurd h3 (h.2.2.2.2 k hk)
        · exact absurd h3 (h.2.2.2.2.2.2 k hk)
      · first | rfl | (rw [zr_ne (by omega), g6 16 0 (by omega)]) | (simp (maxSteps := 1000000) (disch := omega) only [zr_ne])
