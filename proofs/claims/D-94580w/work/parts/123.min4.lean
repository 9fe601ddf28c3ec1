/-! LAYER 2: minutes: seeing, saying, the next step -/
theorem R_next {a v w n m nn nl nw : Nat} {S : sT} {P : pT} {Y I Z : zT} {t i j : Nat} (ht : t < m) (hi : i < j) (hj : j ≤ 30) (h44 : Z 44 t = nI j) (hR : Rel a v w S P Y I n Z m nn nl nw) : Rel a v w S P (zset Y 45 t (nI (i + 1))) I n (zset Z 45 t (nI (i + 1))) m nn nl nw := by
  obtain ⟨⟨hv, hw, hA, h4, h5, hL, hM⟩, hn, hX, hN, hB, hC, hP, hK⟩ := id hR
  have hm4 : m ≤ 4 := hN.2.1.1
  have hn20 : nn ≤ 20 := hN.2.1.2.1
  have hl99 : nl ≤ 99 := hN.2.1.2.2.1
  have hw9 : nw ≤ 9 := hN.2.1.2.2.2
  have hy : ∀ g, g ≠ 45 → zset Y 45 t (nI (i + 1)) g = Y g := fun g h1 => zs_ne h1
  have hz : ∀ g, g ≠ 45 → zset Z 45 t (nI (i + 1)) g = Z g := fun g h1 => zs_ne h1
  refine R_v (fun g hg => hy g (by omega)) ⟨hy _ (by omega), hy _ (by omega), hy _ (by omega), hy _ (by omega), hy _ (by omega)⟩ ⟨hz _ (by omega), hz _ (by omega), hz _ (by omega), hz _ (by omega), hz _ (by omega), hz _ (by omega), hz _ (by omega)⟩ ?_ (MB_set hB (Or.inr ⟨i + 1, by show i + 1 ≤ 30; omega, rfl⟩)) ?_ ?_ hR
  · unfold VN
    rw [hy 10 (by omega), hy 65 (by omega), hy 28 (by omega), hy 30 (by omega), hy 31 (by omega), hy 53 (by omega), hz 53 (by omega), hz 2 (by omega), hz 22 (by omega), hz 18 (by omega), hz 55 (by omega), hz 28 (by omega), hz 30 (by omega), hz 31 (by omega)]
    exact ⟨hN.1, hN.2.1, fun g j hj => zs_par (hN.2.2.1 g j hj), hN.2.2.2⟩
  · obtain ⟨k1, k2, k3, k4, k5, k6, k7, k8⟩ := hC
    unfold MC
    rw [hz 28 (by omega), hz 29 (by omega), hz 30 (by omega), hz 31 (by omega), hz 7 (by omega), hz 5 (by omega), hz 6 (by omega), hz 21 (by omega), hz 44 (by omega), hz 3 (by omega), hz 23 (by omega)]
    refine ⟨k1, k2, k3, k4, fun u h1 h2 => ?_, k6, k7, fun u hu => ?_⟩
    · rw [zr_ni (by omega)]; exact k5 u h1 h2
    · by_cases e : u = t
      · subst e; exact ⟨i + 1, j, by omega, hj, zr_eq, h44⟩
      · rw [zr_ni e]; exact k8 u hu
  · unfold PLr at hP ⊢
    rw [hz 44 (by omega), hz 43 (by omega)]
    exact hP
theorem R_line {a v w n m nn nl nw : Nat} {S : sT} {P : pT} {Y I Z : zT} {x0 x1 x2 x3 x4 : Int32} (hl : nl < 99) (h0 : ∃ p, p < 3 * m ∧ x0 = nI p) (h1 : ∃ p, p ≤ 9 ∧ x1 = nI p) (h2 : ∃ p, p ≤ 1 ∧ x2 = nI p) (h3 : ∃ p, p ≤ 11 ∧ x3 = nI p) (hR : Rel a v w S P Y I n Z m nn nl nw) :
    Rel a v w S P (zset (zset (zset (zset (zset (zset Y 23 nl x0) 24 nl x1) 25 nl x2) 26 nl x3) 27 nl x4) 22 0 (nI (nl + 1))) I n (zset (zset (zset (zset (zset (zset Z 23 nl x0) 24 nl x1) 25 nl x2) 26 nl x3) 27 nl x4) 22 0 (nI (nl + 1))) m nn (nl + 1) nw := by
  obtain ⟨⟨hv, hw, hA, h4, h5, hL, hM⟩, hn, hX, hN, hB, hC, hP, hK⟩ := id hR
  have hm4 : m ≤ 4 := hN.2.1.1
  have hn20 : nn ≤ 20 := hN.2.1.2.1
  have hl99 : nl ≤ 99 := hN.2.1.2.2.1
  have hw9 : nw ≤ 9 := hN.2.1.2.2.2
  have hy : ∀ g, ¬ (22 ≤ g ∧ g ≤ 27) → (zset (zset (zset (zset (zset (zset Y 23 nl x0) 24 nl x1) 25 nl x2) 26 nl x3) 27 nl x4) 22 0 (nI (nl + 1))) g = Y g := fun g h => by rw [zs_ne (by omega), zs_ne (by omega), zs_ne (by omega), zs_ne (by omega), zs_ne (by omega), zs_ne (by omega)]
  have hz : ∀ g, ¬ (22 ≤ g ∧ g ≤ 27) → (zset (zset (zset (zset (zset (zset Z 23 nl x0) 24 nl x1) 25 nl x2) 26 nl x3) 27 nl x4) 22 0 (nI (nl + 1))) g = Z g := fun g h => by rw [zs_ne (by omega), zs_ne (by omega), zs_ne (by omega), zs_ne (by omega), zs_ne (by omega), zs_ne (by omega)]
  have hz23 : (zset (zset (zset (zset (zset (zset Z 23 nl x0) 24 nl x1) 25 nl x2) 26 nl x3) 27 nl x4) 22 0 (nI (nl + 1))) 23 = zset Z 23 nl x0 23 := by rw [zs_ne (by omega), zs_ne (by omega), zs_ne (by omega), zs_ne (by omega), zs_ne (by omega)]
  have hB' : MB (zset (zset (zset (zset (zset (zset Z 23 nl x0) 24 nl x1) 25 nl x2) 26 nl x3) 27 nl x4) 22 0 (nI (nl + 1))) := by
    refine MB_set (MB_set (MB_set (MB_set (MB_set (MB_set hB (Or.inr ?_)) (Or.inr h1)) (Or.inr h2)) (Or.inr h3)) (Or.inl rfl)) (Or.inr ⟨nl + 1, by show nl + 1 ≤ 99; omega, rfl⟩)
    obtain ⟨p, hp, e⟩ := h0
    exact ⟨p, by show p ≤ 11; omega, e⟩
  have hpl : ∀ f i, i < lim m nn (nl + 1) nw f → (zset (zset (zset (zset (zset (zset Y 23 nl x0) 24 nl x1) 25 nl x2) 26 nl x3) 27 nl x4) 22 0 (nI (nl + 1))) f i = (zset (zset (zset (zset (zset (zset Z 23 nl x0) 24 nl x1) 25 nl x2) 26 nl x3) 27 nl x4) 22 0 (nI (nl + 1))) f i := by
    intro f i hi
    by_cases e : 23 ≤ f ∧ f ≤ 27 ∧ i = nl
    · obtain ⟨q1, q2, rfl⟩ := e
      have : f = 23 ∨ f = 24 ∨ f = 25 ∨ f = 26 ∨ f = 27 := by omega
      rcases this with rfl | rfl | rfl | rfl | rfl <;> simp (maxSteps := 1000000) (disch := omega) only [zr_ne, zr_eq]
    · refine zs_par (zs_par (zs_par (zs_par (zs_par (zs_par (hN.2.2.1 f i ?_))))))
      by_cases e2 : 23 ≤ f ∧ f ≤ 27
      · have hl' : lim m nn (nl + 1) nw f = nl + 1 ∧ lim m nn nl nw f = nl := by
          have : f = 23 ∨ f = 24 ∨ f = 25 ∨ f = 26 ∨ f = 27 := by omega
          rcases this with rfl | rfl | rfl | rfl | rfl <;> exact ⟨rfl, rfl⟩
        rw [hl'.2]
        rw [hl'.1] at hi
        omega
      · have : lim m nn (nl + 1) nw f = lim m nn nl nw f := by
          unfold lim
          split <;> first | rfl | exact absurd ⟨by decide, by decide⟩ e2
        rw [this] at hi
        exact hi
  generalize (zset (zset (zset (zset (zset (zset Y 23 nl x0) 24 nl x1) 25 nl x2) 26 nl x3) 27 nl x4) 22 0 (nI (nl + 1))) = Y' at hy hpl ⊢
  have h22 : (zset (zset (zset (zset (zset (zset Z 23 nl x0) 24 nl x1) 25 nl x2) 26 nl x3) 27 nl x4) 22 0 (nI (nl + 1))) 22 0 = nI (nl + 1) := zr_eq
  generalize (zset (zset (zset (zset (zset (zset Z 23 nl x0) 24 nl x1) 25 nl x2) 26 nl x3) 27 nl x4) 22 0 (nI (nl + 1))) = Z' at hz hz23 hB' hpl h22 ⊢
  refine R_v (fun g hg => hy g (by omega)) ⟨hy _ (by omega), hy _ (by omega), hy _ (by omega), hy _ (by omega), hy _ (by omega)⟩ ⟨hz _ (by omega), hz _ (by omega), hz _ (by omega), hz _ (by omega), hz _ (by omega), hz _ (by omega), hz _ (by omega)⟩ ?_ hB' ?_ ?_ hR
  · unfold VN
    rw [hy 10 (by omega), hy 65 (by omega), hy 28 (by omega), hy 30 (by omega), hy 31 (by omega), hy 53 (by omega), hz 53 (by omega), hz 2 (by omega), hz 18 (by omega), hz 55 (by omega), hz 28 (by omega), hz 30 (by omega), hz 31 (by omega)]
    exact ⟨⟨hN.1.1, hN.1.2.1, h22, hN.1.2.2.2⟩, ⟨hm4, hn20, by omega, hw9⟩, hpl, hN.2.2.2⟩
  · obtain ⟨k1, k2, k3, k4, k5, k6, k7, k8⟩ := hC
    unfold MC
    rw [hz 28 (by omega), hz 29 (by omega), hz 30 (by omega), hz 31 (by omega), hz 7 (by omega), hz 5 (by omega), hz 6 (by omega), hz 21 (by omega), hz 44 (by omega), hz 45 (by omega), hz 3 (by omega), hz23]
    refine ⟨k1, k2, k3, k4, k5, k6, fun i hi => ?_, k8⟩
    by_cases e : i = nl
    · subst e; rw [zr_eq]; exact h0
    · rw [zr_ni e]; exact k7 i (by omega)
  · unfold PLr at hP ⊢
    rw [hz 44 (by omega), hz 43 (by omega)]
    exact hP
theorem b8_k {Z : zT} (hB : MB Z) (f : Nat) : Z 8 f = nI 0 ∨ Z 8 f = nI 1 := by
  obtain ⟨k, hk, e⟩ := MB_at hB 8 f (by decide)
  have hk : k ≤ 1 := hk
  rcases (show k = 0 ∨ k = 1 by omega) with rfl | rfl
  · exact Or.inl e
  · exact Or.inr e
/-- seeing -/
theorem g_sees {a v w n m nn nl nw : Nat} {S : sT} {P : pT} {Y I Z : zT} {t f s : Nat} (hR : Rel a v w S P Y I n Z m nn nl nw) (ht : t < m) (hf : f ≤ 9) (hs : a + 741 ≤ s) (hS : S s = (9, 0)) (hI : I s 0 = nI f) :
    ∃ Y' Z', fX9_begins S P (enc a Y I) s v (aT v t) = some (enc a Y' I) ∧ fX4_sees Z (nI t) (nI f) = some Z' ∧ Rel a v w S P Y' I n Z' m nn nl nw ∧ Z' 16 0 = Z 16 0 := by
  obtain ⟨⟨hv, hw, hA, h4, h5, hL, hM⟩, hn, hX, hN, hB, hC, hP, hK⟩ := id hR
  have hm4 : m ≤ 4 := hN.2.1.1
  have hn20 : nn ≤ 20 := hN.2.1.2.1
  have hl99 : nl ≤ 99 := hN.2.1.2.2.1
  have hw9 : nw ≤ 9 := hN.2.1.2.2.2
  have hk9 : isk S s 9 = true := by unfold isk; rw [hS]; rfl
  obtain ⟨q, hq, eq⟩ := MB_at hB 7 (3 * t) (by decide)
  have hq18 : q ≤ 18 := hq
  by_cases hq3 : 3 ≤ q
  · refine ⟨Y, Z, ?_, ?_, hR, rfl⟩
    · unfold fX9_begins
      simp (maxSteps := 1000000) (disch := omega) only [LV_kT hL, LV_pW hL, LV_kW hL, LV_nW hL, er_w hv, VN_7 hN, eq, li_0, li_1, li_2, li_3, li_4, li_5, li_6, li_7, li_8, li_9, li_10, li_11, li_12, li_13, li_14, li_15, li_16, li_17, li_18, li_19, li_20, li_21, li_22, li_23, li_24, li_25, li_26, li_27, li_28, li_29, li_30, li_31, li_32, li_33, li_34, li_35, li_36, li_37, li_38, li_39, li_40, li_41, li_42, li_43, li_44, li_45, li_48, li_57, li_59, li_61, li_63, li_64, li_65, li_72, li_90, li_97, li_99, li_101, li_102, li_103, li_104, li_105, li_108, li_109, li_111, li_114, li_115, li_116, li_117, li_118, li_120, li_121, li_122, li_216, li_240, li_255, li_256, li_380, li_400, li_480, li_511, li_512, li_729, li_1000, li_5184, li_10000, li_46656, li_65536, li_99999, li_1000000, ni_add, ni_mul, ni_sub, ni_ix, inb_t, ni_le_t, ni_le_f, ni_lt_t, ni_lt_f, ni_eq_t, ni_eq_f, ni_m1, ni_m1', ni_mn, ni_mn', Nat.add_sub_cancel, Nat.add_zero, gd_t, bd_s, bdp_s, nmE, njE, if_true, if_false, Bool.not_true, Bool.not_false, zr_ne, zr_ni, zr_eq, decide_false, decide_true]
    · unfold fX4_sees fX4_holder fX4_thing
      simp (maxSteps := 1000000) (disch := omega) only [eq, li_0, li_1, li_2, li_3, li_4, li_5, li_6, li_7, li_8, li_9, li_10, li_11, li_12, li_13, li_14, li_15, li_16, li_17, li_18, li_19, li_20, li_21, li_22, li_23, li_24, li_25, li_26, li_27, li_28, li_29, li_30, li_31, li_32, li_33, li_34, li_35, li_36, li_37, li_38, li_39, li_40, li_41, li_42, li_43, li_44, li_45, li_48, li_57, li_59, li_61, li_63, li_64, li_65, li_72, li_90, li_97, li_99, li_101, li_102, li_103, li_104, li_105, li_108, li_109, li_111, li_114, li_115, li_116, li_117, li_118, li_120, li_121, li_122, li_216, li_240, li_255, li_256, li_380, li_400, li_480, li_511, li_512, li_729, li_1000, li_5184, li_10000, li_46656, li_65536, li_99999, li_1000000, ni_add, ni_mul, ni_sub, ni_ix, inb_t, ni_le_t, ni_le_f, ni_lt_t, ni_lt_f, ni_eq_t, ni_eq_f, ni_m1, ni_m1', ni_mn, ni_mn', Nat.add_sub_cancel, Nat.add_zero, gd_t, bd_s, bdp_s, nmE, njE, if_true, if_false, Bool.not_true, Bool.not_false, zr_ne, zr_ni, zr_eq, decide_false, decide_true]
  · by_cases hnight : jr (Z 16 0) (nI 240) < Z 17 0
    · have h8 : ∃ z9, (z9 = nI 1 ∨ z9 = nI 2) ∧ (Z 8 f = nI 0 ∧ z9 = nI 2 ∨ Z 8 f = nI 1 ∧ z9 = nI 1) := by
        rcases b8_k hB f with h | h
        · exact ⟨nI 2, Or.inr rfl, Or.inl ⟨h, rfl⟩⟩
        · exact ⟨nI 1, Or.inl rfl, Or.inr ⟨h, rfl⟩⟩
      obtain ⟨z9, hz9, h8⟩ := h8
      refine ⟨zset (zset (zset (zset (zset Y 9 (10 * (3 * t + q) + f) z9) 12 (10 * (3 * t + q) + f) (nI (3 * t + q))) 13 (10 * (3 * t + q) + f) (Z 16 0)) 14 (10 * (3 * t + q) + f) (nI 0)) 15 (10 * (3 * t + q) + f) (nI 0), zset (zset (zset (zset (zset Z 9 (10 * (3 * t + q) + f) z9) 12 (10 * (3 * t + q) + f) (nI (3 * t + q))) 13 (10 * (3 * t + q) + f) (Z 16 0)) 14 (10 * (3 * t + q) + f) (nI 0)) 15 (10 * (3 * t + q) + f) (nI 0), ?_, ?_, ?_⟩
      · unfold fX9_begins fX1_isNight fX2_person fX3_is
        rcases h8 with ⟨h8, rfl⟩ | ⟨h8, rfl⟩ <;> simp (maxSteps := 1000000) (disch := omega) only [LV_kT hL, LV_pW hL, LV_kW hL, LV_nW hL, LV_kv hL, LV_p1 hL, LV_p8 hL, LV_p4 hL, LV_k1 hL, LV_n1 hL, LV_pK hL, LV_kK hL, LV_nK hL, LV_k8 hL, LV_n8 hL, LV_k4 hL, LV_n4 hL, LV_pO hL, LV_kO hL, LV_nO hL, LV_pG hL, LV_kG hL, er_w hv, er_s16 hv, er_s20 hv, er_t0 hv, er_is hv, ew_kn hv, ew_g0 hv, ew_g1 hv, ew_g2 hv, ew_g3 hv, enc_o hs, hI, hk9, VN_7 hN, VN_16 hN, VN_17 hN, VN_65 hN, VN_8 hN, eq, eq_true hnight, h8, li_0, li_1, li_2, li_3, li_4, li_5, li_6, li_7, li_8, li_9, li_10, li_11, li_12, li_13, li_14, li_15, li_16, li_17, li_18, li_19, li_20, li_21, li_22, li_23, li_24, li_25, li_26, li_27, li_28, li_29, li_30, li_31, li_32, li_33, li_34, li_35, li_36, li_37, li_38, li_39, li_40, li_41, li_42, li_43, li_44, li_45, li_48, li_57, li_59, li_61, li_63, li_64, li_65, li_72, li_90, li_97, li_99, li_101, li_102, li_103, li_104, li_105, li_108, li_109, li_111, li_114, li_115, li_116, li_117, li_118, li_120, li_121, li_122, li_216, li_240, li_255, li_256, li_380, li_400, li_480, li_511, li_512, li_729, li_1000, li_5184, li_10000, li_46656, li_65536, li_99999, li_1000000, ni_add, ni_mul, ni_sub, ni_ix, inb_t, ni_le_t, ni_le_f, ni_lt_t, ni_lt_f, ni_eq_t, ni_eq_f, ni_m1, ni_m1', ni_mn, ni_mn', Nat.add_sub_cancel, Nat.add_zero, gd_t, bd_s, bdp_s, nmE, njE, if_true, if_false, Bool.not_true, Bool.not_false, zr_ne, zr_ni, zr_eq, decide_false, decide_true]
      · unfold fX4_sees fX4_holder fX4_thing
        rcases h8 with ⟨h8, rfl⟩ | ⟨h8, rfl⟩ <;> simp (maxSteps := 1000000) (disch := omega) only [eq, eq_true hnight, h8, li_0, li_1, li_2, li_3, li_4, li_5, li_6, li_7, li_8, li_9, li_10, li_11, li_12, li_13, li_14, li_15, li_16, li_17, li_18, li_19, li_20, li_21, li_22, li_23, li_24, li_25, li_26, li_27, li_28, li_29, li_30, li_31, li_32, li_33, li_34, li_35, li_36, li_37, li_38, li_39, li_40, li_41, li_42, li_43, li_44, li_45, li_48, li_57, li_59, li_61, li_63, li_64, li_65, li_72, li_90, li_97, li_99, li_101, li_102, li_103, li_104, li_105, li_108, li_109, li_111, li_114, li_115, li_116, li_117, li_118, li_120, li_121, li_122, li_216, li_240, li_255, li_256, li_380, li_400, li_480, li_511, li_512, li_729, li_1000, li_5184, li_10000, li_46656, li_65536, li_99999, li_1000000, ni_add, ni_mul, ni_sub, ni_ix, inb_t, ni_le_t, ni_le_f, ni_lt_t, ni_lt_f, ni_eq_t, ni_eq_f, ni_m1, ni_m1', ni_mn, ni_mn', Nat.add_sub_cancel, Nat.add_zero, gd_t, bd_s, bdp_s, nmE, njE, if_true, if_false, Bool.not_true, Bool.not_false, zr_ne, zr_ni, zr_eq, decide_false, decide_true]
      · refine ⟨?_, by simp (maxSteps := 1000000) (disch := omega) only [zr_ne]⟩
        refine R_p rfl (fun h => absurd h (by decide)) (Or.inl rfl) (R_p rfl (fun h => absurd h (by decide)) (Or.inl rfl) (R_p rfl (fun h => absurd h (by decide)) (Or.inl rfl) (R_p rfl (fun h => absurd h (by decide)) (Or.inl rfl) (R_p rfl (fun h => absurd h (by decide)) (Or.inr ?_) hR))))
        rcases hz9 with rfl | rfl
        · exact ⟨1, by decide, rfl⟩
        · exact ⟨2, by decide, rfl⟩
    · refine ⟨Y, Z, ?_, ?_, hR, rfl⟩
      · unfold fX9_begins fX1_isNight
        simp (maxSteps := 1000000) (disch := omega) only [LV_kT hL, LV_pW hL, LV_kW hL, LV_nW hL, LV_kv hL, er_w hv, er_s16 hv, er_s20 hv, VN_7 hN, VN_16 hN, VN_17 hN, eq, eq_false hnight, li_0, li_1, li_2, li_3, li_4, li_5, li_6, li_7, li_8, li_9, li_10, li_11, li_12, li_13, li_14, li_15, li_16, li_17, li_18, li_19, li_20, li_21, li_22, li_23, li_24, li_25, li_26, li_27, li_28, li_29, li_30, li_31, li_32, li_33, li_34, li_35, li_36, li_37, li_38, li_39, li_40, li_41, li_42, li_43, li_44, li_45, li_48, li_57, li_59, li_61, li_63, li_64, li_65, li_72, li_90, li_97, li_99, li_101, li_102, li_103, li_104, li_105, li_108, li_109, li_111, li_114, li_115, li_116, li_117, li_118, li_120, li_121, li_122, li_216, li_240, li_255, li_256, li_380, li_400, li_480, li_511, li_512, li_729, li_1000, li_5184, li_10000, li_46656, li_65536, li_99999, li_1000000, ni_add, ni_mul, ni_sub, ni_ix, inb_t, ni_le_t, ni_le_f, ni_lt_t, ni_lt_f, ni_eq_t, ni_eq_f, ni_m1, ni_m1', ni_mn, ni_mn', Nat.add_sub_cancel, Nat.add_zero, gd_t, bd_s, bdp_s, nmE, njE, if_true, if_false, Bool.not_true, Bool.not_false, zr_ne, zr_ni, zr_eq, decide_false, decide_true]
      · unfold fX4_sees fX4_holder fX4_thing
        simp (maxSteps := 1000000) (disch := omega) only [eq, eq_false hnight, li_0, li_1, li_2, li_3, li_4, li_5, li_6, li_7, li_8, li_9, li_10, li_11, li_12, li_13, li_14, li_15, li_16, li_17, li_18, li_19, li_20, li_21, li_22, li_23, li_24, li_25, li_26, li_27, li_28, li_29, li_30, li_31, li_32, li_33, li_34, li_35, li_36, li_37, li_38, li_39, li_40, li_41, li_42, li_43, li_44, li_45, li_48, li_57, li_59, li_61, li_63, li_64, li_65, li_72, li_90, li_97, li_99, li_101, li_102, li_103, li_104, li_105, li_108, li_109, li_111, li_114, li_115, li_116, li_117, li_118, li_120, li_121, li_122, li_216, li_240, li_255, li_256, li_380, li_400, li_480, li_511, li_512, li_729, li_1000, li_5184, li_10000, li_46656, li_65536, li_99999, li_1000000, ni_add, ni_mul, ni_sub, ni_ix, inb_t, ni_le_t, ni_le_f, ni_lt_t, ni_lt_f, ni_eq_t, ni_eq_f, ni_m1, ni_m1', ni_mn, ni_mn', Nat.add_sub_cancel, Nat.add_zero, gd_t, bd_s, bdp_s, nmE, njE, if_true, if_false, Bool.not_true, Bool.not_false, zr_ne, zr_ni, zr_eq, decide_false, decide_true]
