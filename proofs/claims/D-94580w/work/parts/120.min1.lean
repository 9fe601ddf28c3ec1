/-! LAYER 2: minutes: what a three does that ends -/
def nx (s : Int32) : Int32 := (1664525 : Int32) * s + (1013904223 : Int32)
def dr (s : Int32) (k : Nat) : Int32 := jr (jur (nx s) (nI 8)) (nI k)
theorem ni_self (x : Int32) : nI x.toBitVec.toNat = x := Int32.toBitVec_inj.mp (by simp [nI])
theorem dr_lt (s : Int32) {k : Nat} (h0 : 0 < k) (hk : k < 2147483648) : ∃ j, j < k ∧ dr s k = nI j := by
  unfold dr
  have h := pk_ushr (nx s) (nI 8) 8 (ni_s2 ⟨8, by omega⟩)
  have e : jur (nx s) (nI 8) = nI ((nx s).toBitVec.toNat / 2 ^ 8) := by
    rw [← h]; exact (ni_self _).symm
  have hb : (nx s).toBitVec.toNat < 2 ^ 32 := (nx s).toBitVec.isLt
  rw [e, ni_rem (by omega) h0 hk]
  exact ⟨_, Nat.mod_lt _ h0, rfl⟩
theorem e_draw {a v k : Nat} {S : sT} {P : pT} {Y I : zT} (hv : v = a + 2) (hL : LV S P v) (h0 : 0 < k) (hk : k < 2147483648) : fX1_draw S P (enc a Y I) v (nI k) = some (dr (Y 1 0) k, enc a (zset Y 1 0 (nx (Y 1 0))) I) := by
  unfold fX1_draw
  simp (maxSteps := 1000000) (disch := omega) only [LV_kv hL, er_s14 hv, ew_s14 hv, gd_t, nmE, zr_eq, li_0, li_8, ni_eq_f, decide_false, Bool.not_false]
  rfl
theorem m_draw {k : Nat} {Z : zT} (h0 : 0 < k) (hk : k < 2147483648) : fX4_draw Z (nI k) = some (dr (Z 1 0) k, zset Z 1 0 (nx (Z 1 0))) := by
  unfold fX4_draw
  simp (maxSteps := 1000000) (disch := omega) only [gd_t, nmE, zr_eq, li_0, li_8, ni_eq_f, decide_false, Bool.not_false]
  rfl
theorem zs_v {Z : zT} {k i : Nat} {v : Int32} (h : Z k i = v) : zset Z k i v = Z := by rw [← h]; exact zs_id
theorem add0 (x : Int32) : x + nI 0 = x := Int32.add_zero x
/-- a hand-over done -/
theorem g_hands {a v t x y : Nat} {S : sT} {P : pT} {Y I Z : zT} (hv : v = a + 2) (hL : LV S P v) (ht : t < 4) (hx : x < 3) (hy : y ≤ 2) (e1 : Y 1 0 = Z 1 0) (e4 : Y 4 t = Z 4 t) (e5 : Y 5 t = Z 5 t) (e6 : Y 6 t = Z 6 t) (e30 : Y 30 t = nI x) (f30 : Z 30 t = nI x) (e31 : Y 31 t = nI y) (f31 : Z 31 t = nI y) (hd : ∃ d, d ≤ 1000 ∧ Z 4 t = nI d) :
    ∃ Y' Z' q, fX2_hands S P (enc a Y I) (aT v t) v = some (enc a Y' I) ∧ fX4_handsOver Z (nI t) = some Z' ∧ q ≤ 18 ∧ q ≠ 3 ∧
      (∀ f i, ¬ ((f = 1 ∧ i = 0) ∨ (f = 5 ∧ i = t) ∨ (f = 6 ∧ i = t) ∨ (f = 7 ∧ i = 3 * t + x)) → Y' f i = Y f i) ∧
      (∀ f i, ¬ ((f = 1 ∧ i = 0) ∨ (f = 5 ∧ i = t) ∨ (f = 6 ∧ i = t) ∨ (f = 7 ∧ i = 3 * t + x) ∨ (f = 28 ∧ i = t)) → Z' f i = Z f i) ∧
      Y' 1 0 = Z' 1 0 ∧ Y' 5 t = Z' 5 t ∧ Y' 6 t = Z' 6 t ∧ Y' 7 (3 * t + x) = nI q ∧ Z' 7 (3 * t + x) = nI q ∧ Z' 28 t = nI 0 := by
  obtain ⟨d, hd1, hd2⟩ := hd
  rw [hd2] at e4
  have hn : ∀ {f i : Nat}, ¬ ((f = 1 ∧ i = 0) ∨ (f = 5 ∧ i = t) ∨ (f = 6 ∧ i = t) ∨ (f = 7 ∧ i = 3 * t + x) ∨ (f = 28 ∧ i = t)) → ¬ ((f = 1 ∧ i = 0) ∨ (f = 5 ∧ i = t) ∨ (f = 6 ∧ i = t) ∨ (f = 7 ∧ i = 3 * t + x)) := by intro f i h; omega
  by_cases hd0 : d = 0
  · subst hd0
    refine ⟨zset (zset (zset Y 5 t (Z 5 t + nI 1)) 6 t (Z 6 t)) 7 (3 * t + x) (nI y), zset (zset (zset Z 5 t (Z 5 t + nI 1)) 28 t (nI 0)) 7 (3 * t + x) (nI y), y, ?_, ?_, by omega, by omega, ?_, ?_, ?_, ?_, ?_, zr_eq, zr_eq, ?_⟩
    · unfold fX2_hands
      simp (maxSteps := 1000000) (disch := omega) only [LV_kT hL, LV_pW hL, LV_kW hL, LV_nW hL, er_t5 hv, ew_t5 hv, er_t4 hv, er_t6 hv, ew_t6 hv, er_t10 hv, er_t11 hv, ew_w hv, e4, e5, e6, e30, e31, add0, li_0, li_1, li_2, li_3, li_4, li_5, li_6, li_7, li_8, li_9, li_10, li_11, li_12, li_13, li_14, li_15, li_16, li_17, li_18, li_19, li_20, li_21, li_22, li_23, li_24, li_25, li_26, li_27, li_28, li_29, li_30, li_31, li_32, li_33, li_34, li_35, li_36, li_37, li_38, li_39, li_40, li_41, li_42, li_43, li_44, li_45, li_48, li_57, li_59, li_61, li_63, li_64, li_65, li_72, li_90, li_97, li_99, li_101, li_102, li_103, li_104, li_105, li_108, li_109, li_111, li_114, li_115, li_116, li_117, li_118, li_120, li_121, li_122, li_216, li_240, li_255, li_256, li_380, li_400, li_480, li_511, li_512, li_729, li_1000, li_5184, li_10000, li_46656, li_65536, li_99999, li_1000000, ni_add, ni_mul, ni_sub, ni_ix, inb_t, ni_le_t, ni_le_f, ni_lt_t, ni_lt_f, ni_eq_t, ni_eq_f, ni_m1, ni_m1', ni_mn, ni_mn', Nat.add_sub_cancel, Nat.add_zero, gd_t, bd_s, bdp_s, nmE, njE, if_true, if_false, Bool.not_true, Bool.not_false, zr_ne, zr_ni, zr_eq, decide_false, decide_true]
    · unfold fX4_handsOver
      simp (maxSteps := 1000000) (disch := omega) only [hd2, f30, f31, li_0, li_1, li_2, li_3, li_4, li_5, li_6, li_7, li_8, li_9, li_10, li_11, li_12, li_13, li_14, li_15, li_16, li_17, li_18, li_19, li_20, li_21, li_22, li_23, li_24, li_25, li_26, li_27, li_28, li_29, li_30, li_31, li_32, li_33, li_34, li_35, li_36, li_37, li_38, li_39, li_40, li_41, li_42, li_43, li_44, li_45, li_48, li_57, li_59, li_61, li_63, li_64, li_65, li_72, li_90, li_97, li_99, li_101, li_102, li_103, li_104, li_105, li_108, li_109, li_111, li_114, li_115, li_116, li_117, li_118, li_120, li_121, li_122, li_216, li_240, li_255, li_256, li_380, li_400, li_480, li_511, li_512, li_729, li_1000, li_5184, li_10000, li_46656, li_65536, li_99999, li_1000000, ni_add, ni_mul, ni_sub, ni_ix, inb_t, ni_le_t, ni_le_f, ni_lt_t, ni_lt_f, ni_eq_t, ni_eq_f, ni_m1, ni_m1', ni_mn, ni_mn', Nat.add_sub_cancel, Nat.add_zero, gd_t, bd_s, bdp_s, nmE, njE, if_true, if_false, Bool.not_true, Bool.not_false, zr_ne, zr_ni, zr_eq, decide_false, decide_true]
    · intro f i h; simp only [zset_app]; repeat rw [if_neg (by omega)]
    · intro f i h; simp only [zset_app]; repeat rw [if_neg (by omega)]
    · simp (maxSteps := 1000000) (disch := omega) only [zr_ne, zr_eq, e1]
    · simp (maxSteps := 1000000) (disch := omega) only [zr_ne, zr_eq]
    · simp (maxSteps := 1000000) (disch := omega) only [zr_ne, zr_eq]
    · simp (maxSteps := 1000000) (disch := omega) only [zr_ne, zr_eq]
  · obtain ⟨r, hr, er⟩ := dr_lt (Z 1 0) (k := 1000) (by omega) (by omega)
    by_cases hf : d ≤ r
    · refine ⟨zset (zset (zset (zset Y 5 t (Z 5 t + nI 1)) 1 0 (nx (Z 1 0))) 6 t (Z 6 t)) 7 (3 * t + x) (nI y), zset (zset (zset (zset Z 5 t (Z 5 t + nI 1)) 28 t (nI 0)) 1 0 (nx (Z 1 0))) 7 (3 * t + x) (nI y), y, ?_, ?_, by omega, by omega, ?_, ?_, ?_, ?_, ?_, zr_eq, zr_eq, ?_⟩
      · unfold fX2_hands
        simp (maxSteps := 1000000) (disch := omega) only [LV_kv hL, LV_kT hL, LV_pW hL, LV_kW hL, LV_nW hL, er_t5 hv, ew_t5 hv, er_t4 hv, er_t6 hv, ew_t6 hv, er_t10 hv, er_t11 hv, ew_w hv, e_draw hv hL, e1, er, e4, e5, e6, e30, e31, add0, li_0, li_1, li_2, li_3, li_4, li_5, li_6, li_7, li_8, li_9, li_10, li_11, li_12, li_13, li_14, li_15, li_16, li_17, li_18, li_19, li_20, li_21, li_22, li_23, li_24, li_25, li_26, li_27, li_28, li_29, li_30, li_31, li_32, li_33, li_34, li_35, li_36, li_37, li_38, li_39, li_40, li_41, li_42, li_43, li_44, li_45, li_48, li_57, li_59, li_61, li_63, li_64, li_65, li_72, li_90, li_97, li_99, li_101, li_102, li_103, li_104, li_105, li_108, li_109, li_111, li_114, li_115, li_116, li_117, li_118, li_120, li_121, li_122, li_216, li_240, li_255, li_256, li_380, li_400, li_480, li_511, li_512, li_729, li_1000, li_5184, li_10000, li_46656, li_65536, li_99999, li_1000000, ni_add, ni_mul, ni_sub, ni_ix, inb_t, ni_le_t, ni_le_f, ni_lt_t, ni_lt_f, ni_eq_t, ni_eq_f, ni_m1, ni_m1', ni_mn, ni_mn', Nat.add_sub_cancel, Nat.add_zero, gd_t, bd_s, bdp_s, nmE, njE, if_true, if_false, Bool.not_true, Bool.not_false, zr_ne, zr_ni, zr_eq, decide_false, decide_true]
      · unfold fX4_handsOver
        simp (maxSteps := 1000000) (disch := omega) only [m_draw, er, hd2, f30, f31, li_0, li_1, li_2, li_3, li_4, li_5, li_6, li_7, li_8, li_9, li_10, li_11, li_12, li_13, li_14, li_15, li_16, li_17, li_18, li_19, li_20, li_21, li_22, li_23, li_24, li_25, li_26, li_27, li_28, li_29, li_30, li_31, li_32, li_33, li_34, li_35, li_36, li_37, li_38, li_39, li_40, li_41, li_42, li_43, li_44, li_45, li_48, li_57, li_59, li_61, li_63, li_64, li_65, li_72, li_90, li_97, li_99, li_101, li_102, li_103, li_104, li_105, li_108, li_109, li_111, li_114, li_115, li_116, li_117, li_118, li_120, li_121, li_122, li_216, li_240, li_255, li_256, li_380, li_400, li_480, li_511, li_512, li_729, li_1000, li_5184, li_10000, li_46656, li_65536, li_99999, li_1000000, ni_add, ni_mul, ni_sub, ni_ix, inb_t, ni_le_t, ni_le_f, ni_lt_t, ni_lt_f, ni_eq_t, ni_eq_f, ni_m1, ni_m1', ni_mn, ni_mn', Nat.add_sub_cancel, Nat.add_zero, gd_t, bd_s, bdp_s, nmE, njE, if_true, if_false, Bool.not_true, Bool.not_false, zr_ne, zr_ni, zr_eq, decide_false, decide_true]
      · intro f i h; simp only [zset_app]; repeat rw [if_neg (by omega)]
      · intro f i h; simp only [zset_app]; repeat rw [if_neg (by omega)]
      · simp (maxSteps := 1000000) (disch := omega) only [zr_ne, zr_eq, e1]
      · simp (maxSteps := 1000000) (disch := omega) only [zr_ne, zr_eq]
      · simp (maxSteps := 1000000) (disch := omega) only [zr_ne, zr_eq]
      · simp (maxSteps := 1000000) (disch := omega) only [zr_ne, zr_eq]
    · obtain ⟨u, hu, eu⟩ := dr_lt (nx (Z 1 0)) (k := 9) (by omega) (by omega)
      refine ⟨zset (zset (zset (zset (zset Y 5 t (Z 5 t + nI 1)) 1 0 (nx (Z 1 0))) 6 t (Z 6 t + nI 1)) 1 0 (nx (nx (Z 1 0)))) 7 (3 * t + x) (nI (10 + u)), zset (zset (zset (zset (zset (zset Z 5 t (Z 5 t + nI 1)) 28 t (nI 0)) 1 0 (nx (Z 1 0))) 6 t (Z 6 t + nI 1)) 1 0 (nx (nx (Z 1 0)))) 7 (3 * t + x) (nI (10 + u)), 10 + u, ?_, ?_, by omega, by omega, ?_, ?_, ?_, ?_, ?_, zr_eq, zr_eq, ?_⟩
      · unfold fX2_hands
        simp (maxSteps := 1000000) (disch := omega) only [LV_kv hL, LV_kT hL, LV_pW hL, LV_kW hL, LV_nW hL, er_t5 hv, ew_t5 hv, er_t4 hv, er_t6 hv, ew_t6 hv, er_t10 hv, er_t11 hv, ew_w hv, e_draw hv hL, e1, er, eu, e4, e5, e6, e30, e31, li_0, li_1, li_2, li_3, li_4, li_5, li_6, li_7, li_8, li_9, li_10, li_11, li_12, li_13, li_14, li_15, li_16, li_17, li_18, li_19, li_20, li_21, li_22, li_23, li_24, li_25, li_26, li_27, li_28, li_29, li_30, li_31, li_32, li_33, li_34, li_35, li_36, li_37, li_38, li_39, li_40, li_41, li_42, li_43, li_44, li_45, li_48, li_57, li_59, li_61, li_63, li_64, li_65, li_72, li_90, li_97, li_99, li_101, li_102, li_103, li_104, li_105, li_108, li_109, li_111, li_114, li_115, li_116, li_117, li_118, li_120, li_121, li_122, li_216, li_240, li_255, li_256, li_380, li_400, li_480, li_511, li_512, li_729, li_1000, li_5184, li_10000, li_46656, li_65536, li_99999, li_1000000, ni_add, ni_mul, ni_sub, ni_ix, inb_t, ni_le_t, ni_le_f, ni_lt_t, ni_lt_f, ni_eq_t, ni_eq_f, ni_m1, ni_m1', ni_mn, ni_mn', Nat.add_sub_cancel, Nat.add_zero, gd_t, bd_s, bdp_s, nmE, njE, if_true, if_false, Bool.not_true, Bool.not_false, zr_ne, zr_ni, zr_eq, decide_false, decide_true]
      · unfold fX4_handsOver
        simp (maxSteps := 1000000) (disch := omega) only [m_draw, er, eu, hd2, f30, f31, li_0, li_1, li_2, li_3, li_4, li_5, li_6, li_7, li_8, li_9, li_10, li_11, li_12, li_13, li_14, li_15, li_16, li_17, li_18, li_19, li_20, li_21, li_22, li_23, li_24, li_25, li_26, li_27, li_28, li_29, li_30, li_31, li_32, li_33, li_34, li_35, li_36, li_37, li_38, li_39, li_40, li_41, li_42, li_43, li_44, li_45, li_48, li_57, li_59, li_61, li_63, li_64, li_65, li_72, li_90, li_97, li_99, li_101, li_102, li_103, li_104, li_105, li_108, li_109, li_111, li_114, li_115, li_116, li_117, li_118, li_120, li_121, li_122, li_216, li_240, li_255, li_256, li_380, li_400, li_480, li_511, li_512, li_729, li_1000, li_5184, li_10000, li_46656, li_65536, li_99999, li_1000000, ni_add, ni_mul, ni_sub, ni_ix, inb_t, ni_le_t, ni_le_f, ni_lt_t, ni_lt_f, ni_eq_t, ni_eq_f, ni_m1, ni_m1', ni_mn, ni_mn', Nat.add_sub_cancel, Nat.add_zero, gd_t, bd_s, bdp_s, nmE, njE, if_true, if_false, Bool.not_true, Bool.not_false, zr_ne, zr_ni, zr_eq, decide_false, decide_true]
      · intro f i h; simp only [zset_app]; repeat rw [if_neg (by omega)]
      · intro f i h; simp only [zset_app]; repeat rw [if_neg (by omega)]
      · simp (maxSteps := 1000000) (disch := omega) only [zr_ne, zr_eq]
      · simp (maxSteps := 1000000) (disch := omega) only [zr_ne, zr_eq]
      · simp (maxSteps := 1000000) (disch := omega) only [zr_ne, zr_eq]
      · simp (maxSteps := 1000000) (disch := omega) only [zr_ne, zr_eq]
/-- the least member who has nothing -/
def fr (w0 w1 w2 : Int32) : Nat := if ¬ w0 = nI 0 ∧ ¬ w1 = nI 0 ∧ ¬ w2 = nI 0 then 0 else if ¬ w0 = nI 1 ∧ ¬ w1 = nI 1 ∧ ¬ w2 = nI 1 then 1 else if ¬ w0 = nI 2 ∧ ¬ w1 = nI 2 ∧ ¬ w2 = nI 2 then 2 else 0
theorem fr_le (w0 w1 w2 : Int32) : fr w0 w1 w2 ≤ 2 := by
  unfold fr
  split
  · omega
  · split
    · omega
    · split <;> omega
theorem nest3 {α : Type} {p q r : Prop} [Decidable p] [Decidable q] [Decidable r] {A B : α} : (if p then B else if q then B else if r then B else A) = if ¬ p ∧ ¬ q ∧ ¬ r then A else B := by
  by_cases hp : p
  · rw [if_pos hp, if_neg (fun h => h.1 hp)]
  · by_cases hq : q
    · rw [if_neg hp, if_pos hq, if_neg (fun h => h.2.1 hq)]
    · by_cases hr : r
      · rw [if_neg hp, if_neg hq, if_pos hr, if_neg (fun h => h.2.2 hr)]
      · rw [if_neg hp, if_neg hq, if_neg hr, if_pos ⟨hp, hq, hr⟩]
theorem it0_s {ρ σ : Type} {b : (σ → Option ρ) → σ → Option ρ} {n : Nat} {z : σ} : it0 b (n + 1) z = b (it0 b n) z := rfl
theorem FU_5 : FU = 999999999995 + 1 + 1 + 1 + 1 + 1 := rfl
theorem m1_a : nI 0 - nI 1 = -nI 1 := rfl
theorem m1_lt : (-nI 1 < nI 0) = True := eq_true (by decide)
theorem m2_lt : (-nI 1 - nI 1 < nI 0) = True := eq_true (by decide)
theorem m1_le : (nI 0 ≤ -nI 1) = False := eq_false (by decide)
theorem m1_ad : nI 0 + -nI 1 = -nI 1 := rfl
theorem ni_dec' {a : Nat} (h : 0 < a) : nI a + -nI 1 = nI (a - 1) := ni_dec h
theorem free_s {a v t i : Nat} {S : sT} {P : pT} {Y I : zT} {k : Int32 → Option Int32} (hv : v = a + 2) (hL : LV S P v) (ht : t < 4) (hi : i < 3) : lX2_free_2 S P (enc a Y I) (aT v t) k (nI i) = if ¬ Y 7 (3 * t + 0) = nI i ∧ ¬ Y 7 (3 * t + 1) = nI i ∧ ¬ Y 7 (3 * t + 2) = nI i then some (nI i) else k (nI (i + 1)) := by
  unfold lX2_free_2
  simp (maxSteps := 1000000) (disch := omega) only [LV_kT hL, LV_pW hL, LV_kW hL, LV_nW hL, er_w hv, li_0, li_1, li_2, li_3, li_4, li_5, li_6, li_7, li_8, li_9, li_10, li_11, li_12, li_13, li_14, li_15, li_16, li_17, li_18, li_19, li_20, li_21, li_22, li_23, li_24, li_25, li_26, li_27, li_28, li_29, li_30, li_31, li_32, li_33, li_34, li_35, li_36, li_37, li_38, li_39, li_40, li_41, li_42, li_43, li_44, li_45, li_48, li_57, li_59, li_61, li_63, li_64, li_65, li_72, li_90, li_97, li_99, li_101, li_102, li_103, li_104, li_105, li_108, li_109, li_111, li_114, li_115, li_116, li_117, li_118, li_120, li_121, li_122, li_216, li_240, li_255, li_256, li_380, li_400, li_480, li_511, li_512, li_729, li_1000, li_5184, li_10000, li_46656, li_65536, li_99999, li_1000000, ni_le_f, ni_add, ni_ix, inb_t, gd_t, bd_s, bdp_s, nmE, njE, if_true, if_false, Bool.not_true, Bool.not_false, nest3]
theorem e_free {a v t : Nat} {S : sT} {P : pT} {Y I : zT} (hv : v = a + 2) (hL : LV S P v) (ht : t < 4) : fX2_free S P (enc a Y I) (aT v t) = some (nI (fr (Y 7 (3 * t + 0)) (Y 7 (3 * t + 1)) (Y 7 (3 * t + 2)))) := by
  unfold fX2_free fr
  rw [njE, FU_5, show (0 : Int32) = nI 0 from rfl, it0_s, free_s hv hL ht (by omega)]
  by_cases h0 : ¬ Y 7 (3 * t + 0) = nI 0 ∧ ¬ Y 7 (3 * t + 1) = nI 0 ∧ ¬ Y 7 (3 * t + 2) = nI 0
  · rw [if_pos h0, if_pos h0]
  · rw [if_neg h0, if_neg h0, it0_s, free_s hv hL ht (by omega)]
    by_cases h1 : ¬ Y 7 (3 * t + 0) = nI 1 ∧ ¬ Y 7 (3 * t + 1) = nI 1 ∧ ¬ Y 7 (3 * t + 2) = nI 1
    · rw [if_pos h1, if_pos h1]
    · rw [if_neg h1, if_neg h1, it0_s, free_s hv hL ht (by omega)]
      by_cases h2 : ¬ Y 7 (3 * t + 0) = nI 2 ∧ ¬ Y 7 (3 * t + 1) = nI 2 ∧ ¬ Y 7 (3 * t + 2) = nI 2
      · rw [if_pos h2, if_pos h2]
      · rw [if_neg h2, if_neg h2, it0_s]
        rfl
