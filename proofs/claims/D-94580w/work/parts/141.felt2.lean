/-! LAYER 2: felt: what one waits, the operation -/
/-- what is spent at the first k spots that a set has, and what is waited -/
def tmk (Z : zT) (b : Nat → Nat) (p : Nat → Bool) : Nat → Nat
  | 0 => 0
  | k + 1 => if p (b k) = true then tmk Z b p k + tt Z (b k) else tmk Z b p k
def smk (Z : zT) (b : Nat → Nat) (p : Nat → Bool) : Nat → Nat
  | 0 => 0
  | k + 1 => if p (b k) = true then smk Z b p k + wt Z (b k) * (tmk Z b p k + tt Z (b k)) else smk Z b p k
theorem tmk_le {Z : zT} (hB : MB Z) (b : Nat → Nat) (p : Nat → Bool) (k : Nat) : tmk Z b p k ≤ 9 * k := by
  induction k with
  | zero => exact Nat.le_refl _
  | succ k ih =>
    show (if p (b k) = true then tmk Z b p k + tt Z (b k) else tmk Z b p k) ≤ 9 * (k + 1)
    have := (tt_k hB (b k)).2.1
    split <;> omega
theorem smk_le {Z : zT} (hB : MB Z) (b : Nat → Nat) (p : Nat → Bool) {k : Nat} (hk : k ≤ 9) : smk Z b p k ≤ 8019 * k := by
  induction k with
  | zero => exact Nat.le_refl _
  | succ k ih =>
    show (if p (b k) = true then smk Z b p k + wt Z (b k) * (tmk Z b p k + tt Z (b k)) else smk Z b p k) ≤ 8019 * (k + 1)
    have h1 := (tt_k hB (b k)).2.1
    have h2 := tmk_le hB b p k
    have h3 : wt Z (b k) * (tmk Z b p k + tt Z (b k)) ≤ 99 * 81 := pr_le (wt_k hB (b k)).1 (by omega)
    have h4 := ih (by omega)
    split <;> omega
theorem smk_c {Z : zT} {b : Nat → Nat} {p p' : Nat → Bool} {k : Nat} (h : ∀ j, j < k → p (b j) = p' (b j)) : tmk Z b p k = tmk Z b p' k ∧ smk Z b p k = smk Z b p' k := by
  induction k with
  | zero => exact ⟨rfl, rfl⟩
  | succ k ih =>
    obtain ⟨h1, h2⟩ := ih (fun j hj => h j (by omega))
    have h3 := h k (by omega)
    constructor
    · show (if p (b k) = true then tmk Z b p k + tt Z (b k) else tmk Z b p k) = if p' (b k) = true then tmk Z b p' k + tt Z (b k) else tmk Z b p' k
      rw [h1, h3]
    · show (if p (b k) = true then smk Z b p k + wt Z (b k) * (tmk Z b p k + tt Z (b k)) else smk Z b p k) = if p' (b k) = true then smk Z b p' k + wt Z (b k) * (tmk Z b p' k + tt Z (b k)) else smk Z b p' k
      rw [h1, h2, h3]
/-- a set has a spot -/
def hsb (set s : Nat) : Bool := decide (set / 2 ^ s % 2 = 1)
theorem bit_v {a k : Nat} (ha : a < 2147483648) (hk : k < 32) : jsr (nI a) (nI k) &&& nI 1 = nI (a / 2 ^ k % 2) := by
  rw [ni_shr hk ha, ni_and, Nat.and_one_is_mod]
theorem bit_t {a k : Nat} (ha : a < 2147483648) (hk : k < 32) (h : a / 2 ^ k % 2 = 1) : jsr (nI a) (nI k) &&& nI 1 = nI 1 := by
  rw [bit_v ha hk, h]
theorem bit_f {a k : Nat} (ha : a < 2147483648) (hk : k < 32) (h : ¬ a / 2 ^ k % 2 = 1) : jsr (nI a) (nI k) &&& nI 1 = nI 0 := by
  rw [bit_v ha hk, show a / 2 ^ k % 2 = 0 from by omega]
theorem cpl_k : ∀ s : Fin 512, nI 511 &&& (nI s.1 ^^^ (-1 : Int32)) = nI (511 - s.1) := by decide +kernel
theorem cpl_b : ∀ s : Fin 512, ∀ k : Fin 9, hsb (511 - s.1) k.1 = !(hsb s.1 k.1) := by decide +kernel
/-- OneEyeModel's sum of a set -/
theorem m_feltBy {Z Z0 : zT} {set : Nat} {b : Nat → Nat} (hB : MB Z0) (h52 : Z 52 = Z0 52) (h53 : Z 53 = Z0 53) (hb : ∀ j, j < 9 → b j < 9 ∧ Z 54 j = nI (b j)) (hs : set < 512) : fX4_feltBy Z (nI set) = some (nI (smk Z0 b (hsb set) 9)) := by
  unfold fX4_feltBy
  rw [njE]
  refine it2_up (Q := fun o => o = some (nI (smk Z0 b (hsb set) 9))) (N := 9) (fun k u x => u = nI (smk Z0 b (hsb set) k) ∧ x = nI (tmk Z0 b (hsb set) k)) ?_ ?_ (F := FU) (FU_lt (by omega)) ⟨rfl, rfl⟩
  · rintro kk k _ _ hk ⟨rfl, rfl⟩
    obtain ⟨g1, g2⟩ := hb k hk
    have h1 := tmk_le hB b (hsb set) k
    have h2 := smk_le hB b (hsb set) (k := k) (by omega)
    have h3 := (tt_k hB (b k)).2.1
    have h4 : wt Z0 (b k) * (tmk Z0 b (hsb set) k + tt Z0 (b k)) ≤ 99 * 90 := pr_le (wt_k hB (b k)).1 (by omega)
    have e53 : Z 53 (b k) + nI 1 = nI (tt Z0 (b k)) := by rw [h53]; exact (tt_k hB (b k)).2.2
    have e52 : Z 52 (b k) = nI (wt Z0 (b k)) := by rw [h52]; exact (wt_k hB (b k)).2
    have e3 : nI (tmk Z0 b (hsb set) k) + Z 53 (b k) + nI 1 = nI (tmk Z0 b (hsb set) k + tt Z0 (b k)) := by
      rw [Int32.add_assoc, e53, ni_add]
    refine ⟨nI (smk Z0 b (hsb set) (k + 1)), nI (tmk Z0 b (hsb set) (k + 1)), ?_, rfl, rfl⟩
    unfold lX4_feltBy_7
    show _ = kk (nI (if hsb set (b k) = true then smk Z0 b (hsb set) k + wt Z0 (b k) * (tmk Z0 b (hsb set) k + tt Z0 (b k)) else smk Z0 b (hsb set) k)) (nI (if hsb set (b k) = true then tmk Z0 b (hsb set) k + tt Z0 (b k) else tmk Z0 b (hsb set) k)) (nI (k + 1))
    by_cases hc : set / 2 ^ (b k) % 2 = 1
    · rw [if_pos (show hsb set (b k) = true from decide_eq_true hc), if_pos (show hsb set (b k) = true from decide_eq_true hc)]
      have eb := bit_t (a := set) (by omega) (show b k < 32 by omega) hc
      generalize tmk Z0 b (hsb set) k = x1 at h1 h4 e3 ⊢
      generalize smk Z0 b (hsb set) k = x2 at h2 ⊢
      ((repeat (first | (with_reducible refine Eq.trans njE ?_; (try dsimp only)) | ((conv => lhs; arg 1; simp (maxSteps := 1000000) (disch := omega) only [g2, eb, e3, e52, li_0, li_1, li_2, li_3, li_4, li_5, li_6, li_7, li_8, li_9, li_10, li_11, li_12, li_13, li_14, li_15, li_16, li_17, li_18, li_19, li_20, li_21, li_22, li_23, li_24, li_25, li_26, li_27, li_28, li_29, li_30, li_31, li_32, li_33, li_34, li_35, li_36, li_37, li_38, li_39, li_40, li_41, li_42, li_43, li_44, li_45, li_48, li_57, li_59, li_61, li_63, li_64, li_65, li_72, li_90, li_97, li_99, li_101, li_102, li_103, li_104, li_105, li_108, li_109, li_111, li_114, li_115, li_116, li_117, li_118, li_120, li_121, li_122, li_216, li_240, li_255, li_256, li_380, li_400, li_480, li_511, li_512, li_729, li_1000, li_5184, li_10000, li_46656, li_65536, li_99999, li_1000000, ni_add, ni_mul, ni_sub, ni_ix, inb_t, ni_le_t, ni_le_f, ni_lt_t, ni_lt_f, ni_eq_t, ni_eq_f, ni_m1, ni_m1', ni_mn, ni_mn', Nat.add_sub_cancel, Nat.add_zero, zr_ne, zr_ni, zr_eq, gd_t, bd_s, if_true, if_false, Bool.not_true, Bool.not_false, ↓reduceIte, decide_false, decide_true]); (first | with_reducible refine Eq.trans gd_t ?_ | with_reducible refine Eq.trans bd_s ?_ | with_reducible refine Eq.trans bdp_s ?_ | with_reducible refine Eq.trans (if_pos trivial) ?_ | with_reducible refine Eq.trans (if_neg not_false) ?_ | with_reducible refine Eq.trans nmE ?_))));  (try simp (maxSteps := 1000000) (disch := omega) only [g2, eb, e3, e52, li_0, li_1, li_2, li_3, li_4, li_5, li_6, li_7, li_8, li_9, li_10, li_11, li_12, li_13, li_14, li_15, li_16, li_17, li_18, li_19, li_20, li_21, li_22, li_23, li_24, li_25, li_26, li_27, li_28, li_29, li_30, li_31, li_32, li_33, li_34, li_35, li_36, li_37, li_38, li_39, li_40, li_41, li_42, li_43, li_44, li_45, li_48, li_57, li_59, li_61, li_63, li_64, li_65, li_72, li_90, li_97, li_99, li_101, li_102, li_103, li_104, li_105, li_108, li_109, li_111, li_114, li_115, li_116, li_117, li_118, li_120, li_121, li_122, li_216, li_240, li_255, li_256, li_380, li_400, li_480, li_511, li_512, li_729, li_1000, li_5184, li_10000, li_46656, li_65536, li_99999, li_1000000, ni_add, ni_mul, ni_sub, ni_ix, inb_t, ni_le_t, ni_le_f, ni_lt_t, ni_lt_f, ni_eq_t, ni_eq_f, ni_m1, ni_m1', ni_mn, ni_mn', Nat.add_sub_cancel, Nat.add_zero, zr_ne, zr_ni, zr_eq, gd_t, bd_s, if_true, if_false, Bool.not_true, Bool.not_false, ↓reduceIte, decide_false, decide_true]))
    · rw [if_neg (show ¬ hsb set (b k) = true from fun h => hc (of_decide_eq_true h)), if_neg (show ¬ hsb set (b k) = true from fun h => hc (of_decide_eq_true h))]
      have eb := bit_f (a := set) (by omega) (show b k < 32 by omega) hc
      ((repeat (first | (with_reducible refine Eq.trans njE ?_; (try dsimp only)) | ((conv => lhs; arg 1; simp (maxSteps := 1000000) (disch := omega) only [g2, eb, li_0, li_1, li_2, li_3, li_4, li_5, li_6, li_7, li_8, li_9, li_10, li_11, li_12, li_13, li_14, li_15, li_16, li_17, li_18, li_19, li_20, li_21, li_22, li_23, li_24, li_25, li_26, li_27, li_28, li_29, li_30, li_31, li_32, li_33, li_34, li_35, li_36, li_37, li_38, li_39, li_40, li_41, li_42, li_43, li_44, li_45, li_48, li_57, li_59, li_61, li_63, li_64, li_65, li_72, li_90, li_97, li_99, li_101, li_102, li_103, li_104, li_105, li_108, li_109, li_111, li_114, li_115, li_116, li_117, li_118, li_120, li_121, li_122, li_216, li_240, li_255, li_256, li_380, li_400, li_480, li_511, li_512, li_729, li_1000, li_5184, li_10000, li_46656, li_65536, li_99999, li_1000000, ni_add, ni_mul, ni_sub, ni_ix, inb_t, ni_le_t, ni_le_f, ni_lt_t, ni_lt_f, ni_eq_t, ni_eq_f, ni_m1, ni_m1', ni_mn, ni_mn', Nat.add_sub_cancel, Nat.add_zero, zr_ne, zr_ni, zr_eq, gd_t, bd_s, if_true, if_false, Bool.not_true, Bool.not_false, ↓reduceIte, decide_false, decide_true]); (first | with_reducible refine Eq.trans gd_t ?_ | with_reducible refine Eq.trans bd_s ?_ | with_reducible refine Eq.trans bdp_s ?_ | with_reducible refine Eq.trans (if_pos trivial) ?_ | with_reducible refine Eq.trans (if_neg not_false) ?_ | with_reducible refine Eq.trans nmE ?_))));  (try simp (maxSteps := 1000000) (disch := omega) only [g2, eb, li_0, li_1, li_2, li_3, li_4, li_5, li_6, li_7, li_8, li_9, li_10, li_11, li_12, li_13, li_14, li_15, li_16, li_17, li_18, li_19, li_20, li_21, li_22, li_23, li_24, li_25, li_26, li_27, li_28, li_29, li_30, li_31, li_32, li_33, li_34, li_35, li_36, li_37, li_38, li_39, li_40, li_41, li_42, li_43, li_44, li_45, li_48, li_57, li_59, li_61, li_63, li_64, li_65, li_72, li_90, li_97, li_99, li_101, li_102, li_103, li_104, li_105, li_108, li_109, li_111, li_114, li_115, li_116, li_117, li_118, li_120, li_121, li_122, li_216, li_240, li_255, li_256, li_380, li_400, li_480, li_511, li_512, li_729, li_1000, li_5184, li_10000, li_46656, li_65536, li_99999, li_1000000, ni_add, ni_mul, ni_sub, ni_ix, inb_t, ni_le_t, ni_le_f, ni_lt_t, ni_lt_f, ni_eq_t, ni_eq_f, ni_m1, ni_m1', ni_mn, ni_mn', Nat.add_sub_cancel, Nat.add_zero, zr_ne, zr_ni, zr_eq, gd_t, bd_s, if_true, if_false, Bool.not_true, Bool.not_false, ↓reduceIte, decide_false, decide_true]))
  · rintro kk _ _ ⟨rfl, rfl⟩
    exact if_pos (by decide)
/-- what both sides say of a set -/
def fv (Z : zT) (set : Nat) : Nat := smk Z (srt Z 9) (hsb set) 9 + smk Z (srt Z 9) (fun s => !(hsb set s)) 9
theorem fv_le {Z : zT} (hB : MB Z) (set : Nat) : fv Z set ≤ 144342 := by
  have h1 := smk_le hB (srt Z 9) (hsb set) (k := 9) (by omega)
  have h2 := smk_le hB (srt Z 9) (fun s => !(hsb set s)) (k := 9) (by omega)
  unfold fv
  omega
/-- OneEye's sum of a set -/
theorem e_set {a v w n m nn nl nw : Nat} {S : sT} {P : pT} {Y I Z : zT} {set : Nat} {J : Int32 → Option (Int32 × zT)} (hR : Rel a v w S P Y I n Z m nn nl nw) (hb : ∀ j, j < 9 → Y 214 j = nI (srt Z 9 j)) (hs : set < 512) : it3 (lX0_felt_127 S P a (q11 v) (q12 v) (enc a Y I) (nI set) J) FU (nI 0) (nI 0) (nI 0) (nI 0) = J (nI (fv Z set)) := by
  obtain ⟨⟨hv, hw, hA, h4, h5, hL, hM⟩, hn, hX, hN, hB, hC, hP, hK⟩ := id hR
  have hm4 : m ≤ 4 := hN.2.1.1
  have hn20 : nn ≤ 20 := hN.2.1.2.1
  have hl99 : nl ≤ 99 := hN.2.1.2.2.1
  have hw9 : nw ≤ 9 := hN.2.1.2.2.2
  refine it3_up (Q := fun o => o = J (nI (fv Z set))) (N := 9) (fun k u x y => u = nI (tmk Z (srt Z 9) (hsb set) k) ∧ x = nI (tmk Z (srt Z 9) (fun s => !(hsb set s)) k) ∧ y = nI (smk Z (srt Z 9) (hsb set) k + smk Z (srt Z 9) (fun s => !(hsb set s)) k)) ?_ ?_ (F := FU) (FU_lt (by omega)) ⟨rfl, rfl, rfl⟩
  · rintro kk k _ _ _ hk ⟨rfl, rfl, rfl⟩
    have g1 : srt Z 9 k < 9 := srt_lt (by omega) k
    have g2 := hb k hk
    have h1 := tmk_le hB (srt Z 9) (hsb set) k
    have h2 := smk_le hB (srt Z 9) (hsb set) (k := k) (by omega)
    have h1' := tmk_le hB (srt Z 9) (fun s => !(hsb set s)) k
    have h2' := smk_le hB (srt Z 9) (fun s => !(hsb set s)) (k := k) (by omega)
    refine ⟨nI (tmk Z (srt Z 9) (hsb set) (k + 1)), nI (tmk Z (srt Z 9) (fun s => !(hsb set s)) (k + 1)), nI (smk Z (srt Z 9) (hsb set) (k + 1) + smk Z (srt Z 9) (fun s => !(hsb set s)) (k + 1)), ?_, rfl, rfl, rfl⟩
    show _ = kk (nI (if hsb set (srt Z 9 k) = true then tmk Z (srt Z 9) (hsb set) k + tt Z (srt Z 9 k) else tmk Z (srt Z 9) (hsb set) k)) (nI (if (!(hsb set (srt Z 9 k))) = true then tmk Z (srt Z 9) (fun s => !(hsb set s)) k + tt Z (srt Z 9 k) else tmk Z (srt Z 9) (fun s => !(hsb set s)) k)) (nI ((if hsb set (srt Z 9 k) = true then smk Z (srt Z 9) (hsb set) k + wt Z (srt Z 9 k) * (tmk Z (srt Z 9) (hsb set) k + tt Z (srt Z 9 k)) else smk Z (srt Z 9) (hsb set) k) + (if (!(hsb set (srt Z 9 k))) = true then smk Z (srt Z 9) (fun s => !(hsb set s)) k + wt Z (srt Z 9 k) * (tmk Z (srt Z 9) (fun s => !(hsb set s)) k + tt Z (srt Z 9 k)) else smk Z (srt Z 9) (fun s => !(hsb set s)) k))) (nI (k + 1))
    generalize tmk Z (srt Z 9) (hsb set) k = x1 at h1 ⊢
    generalize smk Z (srt Z 9) (hsb set) k = x2 at h2 ⊢
    generalize tmk Z (srt Z 9) (fun s => !(hsb set s)) k = x3 at h1' ⊢
    generalize smk Z (srt Z 9) (fun s => !(hsb set s)) k = x4 at h2' ⊢
    generalize srt Z 9 k = s at g1 g2 ⊢
    have h3 := (tt_k hB s).2.1
    have h4 : wt Z s * (x1 + tt Z s) ≤ 99 * 90 := pr_le (wt_k hB s).1 (by omega)
    have h5 : wt Z s * (x3 + tt Z s) ≤ 99 * 90 := pr_le (wt_k hB s).1 (by omega)
    have e53 : Y 53 s = nI (tt Z s) := by rw [VN_53 hN g1]; exact (tt_k hB s).2.2
    have e52 : Y 52 s = nI (wt Z s) := by rw [VN_52 hN g1]; exact (wt_k hB s).2
    by_cases hc : set / 2 ^ s % 2 = 1
    · have ht : hsb set s = true := decide_eq_true hc
      have eb := bit_t (a := set) (by omega) (show s < 32 by omega) hc
      simp only [ht, Bool.not_true, Bool.not_false, ↓reduceIte, Bool.false_eq_true]
      rw [show x2 + wt Z s * (x1 + tt Z s) + x4 = x2 + x4 + wt Z s * (x1 + tt Z s) from by omega]
      unfold lX0_felt_127
      ((repeat (first | (with_reducible refine Eq.trans njE ?_; (try dsimp only)) | ((conv => lhs; arg 1; simp (maxSteps := 1000000) (disch := omega) only [g2, eb, e53, e52, LA_ka hA, LA_p14 hA, LA_k14 hA, LA_n14 hA, LV_kv hL, LV_p11 hL, LV_k11 hL, LV_n11 hL, LV_kv hL, LV_p12 hL, LV_k12 hL, LV_n12 hL, er_by, ew_by, er_we hv, er_ti hv, li_0, li_1, li_2, li_3, li_4, li_5, li_6, li_7, li_8, li_9, li_10, li_11, li_12, li_13, li_14, li_15, li_16, li_17, li_18, li_19, li_20, li_21, li_22, li_23, li_24, li_25, li_26, li_27, li_28, li_29, li_30, li_31, li_32, li_33, li_34, li_35, li_36, li_37, li_38, li_39, li_40, li_41, li_42, li_43, li_44, li_45, li_48, li_57, li_59, li_61, li_63, li_64, li_65, li_72, li_90, li_97, li_99, li_101, li_102, li_103, li_104, li_105, li_108, li_109, li_111, li_114, li_115, li_116, li_117, li_118, li_120, li_121, li_122, li_216, li_240, li_255, li_256, li_380, li_400, li_480, li_511, li_512, li_729, li_1000, li_5184, li_10000, li_46656, li_65536, li_99999, li_1000000, ni_add, ni_mul, ni_sub, ni_ix, inb_t, ni_le_t, ni_le_f, ni_lt_t, ni_lt_f, ni_eq_t, ni_eq_f, ni_m1, ni_m1', ni_mn, ni_mn', Nat.add_sub_cancel, Nat.add_zero, zr_ne, zr_ni, zr_eq, gd_t, bd_s, if_true, if_false, Bool.not_true, Bool.not_false, ↓reduceIte, decide_false, decide_true]); (first | with_reducible refine Eq.trans gd_t ?_ | with_reducible refine Eq.trans bd_s ?_ | with_reducible refine Eq.trans bdp_s ?_ | with_reducible refine Eq.trans (if_pos trivial) ?_ | with_reducible refine Eq.trans (if_neg not_false) ?_ | with_reducible refine Eq.trans nmE ?_))));  (try simp (maxSteps := 1000000) (disch := omega) only [g2, eb, e53, e52, LA_ka hA, LA_p14 hA, LA_k14 hA, LA_n14 hA, LV_kv hL, LV_p11 hL, LV_k11 hL, LV_n11 hL, LV_kv hL, LV_p12 hL, LV_k12 hL, LV_n12 hL, er_by, ew_by, er_we hv, er_ti hv, li_0, li_1, li_2, li_3, li_4, li_5, li_6, li_7, li_8, li_9, li_10, li_11, li_12, li_13, li_14, li_15, li_16, li_17, li_18, li_19, li_20, li_21, li_22, li_23, li_24, li_25, li_26, li_27, li_28, li_29, li_30, li_31, li_32, li_33, li_34, li_35, li_36, li_37, li_38, li_39, li_40, li_41, li_42, li_43, li_44, li_45, li_48, li_57, li_59, li_61, li_63, li_64, li_65, li_72, li_90, li_97, li_99, li_101, li_102, li_103, li_104, li_105, li_108, li_109, li_111, li_114, li_115, li_116, li_117, li_118, li_120, li_121, li_122, li_216, li_240, li_255, li_256, li_380, li_400, li_480, li_511, li_512, li_729, li_1000, li_5184, li_10000, li_46656, li_65536, li_99999, li_1000000, ni_add, ni_mul, ni_sub, ni_ix, inb_t, ni_le_t, ni_le_f, ni_lt_t, ni_lt_f, ni_eq_t, ni_eq_f, ni_m1, ni_m1', ni_mn, ni_mn', Nat.add_sub_cancel, Nat.add_zero, zr_ne, zr_ni, zr_eq, gd_t, bd_s, if_true, if_false, Bool.not_true, Bool.not_false, ↓reduceIte, decide_false, decide_true]))
    · have ht : hsb set s = false := decide_eq_false hc
      have eb := bit_f (a := set) (by omega) (show s < 32 by omega) hc
      simp only [ht, Bool.not_true, Bool.not_false, ↓reduceIte, Bool.false_eq_true]
      rw [show x2 + (x4 + wt Z s * (x3 + tt Z s)) = x2 + x4 + wt Z s * (x3 + tt Z s) from by omega]
      unfold lX0_felt_127
      ((repeat (first | (with_reducible refine Eq.trans njE ?_; (try dsimp only)) | ((conv => lhs; arg 1; simp (maxSteps := 1000000) (disch := omega) only [g2, eb, e53, e52, LA_ka hA, LA_p14 hA, LA_k14 hA, LA_n14 hA, LV_kv hL, LV_p11 hL, LV_k11 hL, LV_n11 hL, LV_kv hL, LV_p12 hL, LV_k12 hL, LV_n12 hL, er_by, ew_by, er_we hv, er_ti hv, li_0, li_1, li_2, li_3, li_4, li_5, li_6, li_7, li_8, li_9, li_10, li_11, li_12, li_13, li_14, li_15, li_16, li_17, li_18, li_19, li_20, li_21, li_22, li_23, li_24, li_25, li_26, li_27, li_28, li_29, li_30, li_31, li_32, li_33, li_34, li_35, li_36, li_37, li_38, li_39, li_40, li_41, li_42, li_43, li_44, li_45, li_48, li_57, li_59, li_61, li_63, li_64, li_65, li_72, li_90, li_97, li_99, li_101, li_102, li_103, li_104, li_105, li_108, li_109, li_111, li_114, li_115, li_116, li_117, li_118, li_120, li_121, li_122, li_216, li_240, li_255, li_256, li_380, li_400, li_480, li_511, li_512, li_729, li_1000, li_5184, li_10000, li_46656, li_65536, li_99999, li_1000000, ni_add, ni_mul, ni_sub, ni_ix, inb_t, ni_le_t, ni_le_f, ni_lt_t, ni_lt_f, ni_eq_t, ni_eq_f, ni_m1, ni_m1', ni_mn, ni_mn', Nat.add_sub_cancel, Nat.add_zero, zr_ne, zr_ni, zr_eq, gd_t, bd_s, if_true, if_false, Bool.not_true, Bool.not_false, ↓reduceIte, decide_false, decide_true]); (first | with_reducible refine Eq.trans gd_t ?_ | with_reducible refine Eq.trans bd_s ?_ | with_reducible refine Eq.trans bdp_s ?_ | with_reducible refine Eq.trans (if_pos trivial) ?_ | with_reducible refine Eq.trans (if_neg not_false) ?_ | with_reducible refine Eq.trans nmE ?_))));  (try simp (maxSteps := 1000000) (disch := omega) only [g2, eb, e53, e52, LA_ka hA, LA_p14 hA, LA_k14 hA, LA_n14 hA, LV_kv hL, LV_p11 hL, LV_k11 hL, LV_n11 hL, LV_kv hL, LV_p12 hL, LV_k12 hL, LV_n12 hL, er_by, ew_by, er_we hv, er_ti hv, li_0, li_1, li_2, li_3, li_4, li_5, li_6, li_7, li_8, li_9, li_10, li_11, li_12, li_13, li_14, li_15, li_16, li_17, li_18, li_19, li_20, li_21, li_22, li_23, li_24, li_25, li_26, li_27, li_28, li_29, li_30, li_31, li_32, li_33, li_34, li_35, li_36, li_37, li_38, li_39, li_40, li_41, li_42, li_43, li_44, li_45, li_48, li_57, li_59, li_61, li_63, li_64, li_65, li_72, li_90, li_97, li_99, li_101, li_102, li_103, li_104, li_105, li_108, li_109, li_111, li_114, li_115, li_116, li_117, li_118, li_120, li_121, li_122, li_216, li_240, li_255, li_256, li_380, li_400, li_480, li_511, li_512, li_729, li_1000, li_5184, li_10000, li_46656, li_65536, li_99999, li_1000000, ni_add, ni_mul, ni_sub, ni_ix, inb_t, ni_le_t, ni_le_f, ni_lt_t, ni_lt_f, ni_eq_t, ni_eq_f, ni_m1, ni_m1', ni_mn, ni_mn', Nat.add_sub_cancel, Nat.add_zero, zr_ne, zr_ni, zr_eq, gd_t, bd_s, if_true, if_false, Bool.not_true, Bool.not_false, ↓reduceIte, decide_false, decide_true]))
  · rintro kk _ _ _ ⟨rfl, rfl, rfl⟩
    exact if_pos (by decide)
theorem e_least {a v w n m nn nl nw : Nat} {S : sT} {P : pT} {Y I Z : zT} (hR : Rel a v w S P Y I n Z m nn nl nw) (hb : ∀ j, j < 9 → Y 214 j = nI (srt Z 9 j)) : it1 (lX0_felt_107 S P a (q11 v) (q12 v) (enc a Y I)) FU (nI 1000000) (nI 0) = some (nI (mno (fv Z) 512), enc a Y I) := by
  obtain ⟨⟨hv, hw, hA, h4, h5, hL, hM⟩, hn, hX, hN, hB, hC, hP, hK⟩ := id hR
  have hm4 : m ≤ 4 := hN.2.1.1
  have hn20 : nn ≤ 20 := hN.2.1.2.1
  have hl99 : nl ≤ 99 := hN.2.1.2.2.1
  have hw9 : nw ≤ 9 := hN.2.1.2.2.2
  refine it1_up (Q := fun o => o = some (nI (mno (fv Z) 512), enc a Y I)) (N := 512) (fun k u => u = nI (mno (fv Z) k)) ?_ ?_ (F := FU) (FU_lt (by omega)) rfl
  · rintro kk k _ hk rfl
    refine ⟨_, ?_, rfl⟩
    unfold lX0_felt_107
    rw [if_neg (show ¬ (512 : Int32) ≤ nI k from nI_ge (b := 512) hk (by omega)), njE, njE]
    refine Eq.trans (e_set hR hb hk) ?_
    have h1 := (mno_le (f := fv Z) (k := k)).1
    have h2 := fv_le hB k
    show _ = kk (nI (if fv Z k < mno (fv Z) k then fv Z k else mno (fv Z) k)) _
    rw [nmE, nmE, show nI k + (1 : Int32) = nI (k + 1) from nI_1 k]
    refine congrArg (fun x => kk x (nI (k + 1))) ?_
    unfold jmin
    by_cases hc : fv Z k < mno (fv Z) k
    · rw [if_pos hc, if_pos (nI_lt hc (by omega))]
    · rw [if_neg hc, if_neg (nI_nlt (by omega) (by omega))]
  · rintro kk _ rfl
    exact if_pos (by decide)
theorem m_least {Z Z0 : zT} (hB : MB Z0) (h52 : Z 52 = Z0 52) (h53 : Z 53 = Z0 53) (hb : ∀ j, j < 9 → Z 54 j = nI (srt Z0 9 j)) : it1 (lX4_felt_106 Z) FU (nI 1000000) (nI 0) = some (nI (mno (fv Z0) 512), Z) := by
  refine it1_up (Q := fun o => o = some (nI (mno (fv Z0) 512), Z)) (N := 512) (fun k u => u = nI (mno (fv Z0) k)) ?_ ?_ (F := FU) (FU_lt (by omega)) rfl
  · rintro kk k _ hk rfl
    refine ⟨_, ?_, rfl⟩
    have hb' : ∀ j, j < 9 → srt Z0 9 j < 9 ∧ Z 54 j = nI (srt Z0 9 j) := fun j hj => ⟨srt_lt (by omega) j, hb j hj⟩
    have f1 := m_feltBy hB h52 h53 hb' hk
    have f2 := m_feltBy hB h52 h53 hb' (show 511 - k < 512 by omega)
    have f3 : smk Z0 (srt Z0 9) (hsb (511 - k)) 9 = smk Z0 (srt Z0 9) (fun s => !(hsb k s)) 9 := (smk_c (fun j hj => cpl_b ⟨k, hk⟩ ⟨srt Z0 9 j, srt_lt (by omega) j⟩)).2
    rw [f3] at f2
    have f4 : (511 : Int32) &&& (nI k ^^^ (-1 : Int32)) = nI (511 - k) := cpl_k ⟨k, hk⟩
    have h1 := (mno_le (f := fv Z0) (k := k)).1
    have h2 := fv_le hB k
    show _ = kk (nI (if fv Z0 k < mno (fv Z0) k then fv Z0 k else mno (fv Z0) k)) _
    unfold lX4_felt_106
    rw [if_neg (show ¬ (512 : Int32) ≤ nI k from nI_ge (b := 512) hk (by omega)), f1, bd_s, f4, f2, bd_s, nmE, njE, ni_add]
    have hfv : smk Z0 (srt Z0 9) (hsb k) 9 + smk Z0 (srt Z0 9) (fun s => !(hsb k s)) 9 = fv Z0 k := rfl
    rw [hfv]
    by_cases hc : fv Z0 k < mno (fv Z0) k
    · rw [if_pos hc, if_neg (nI_ge hc (by omega))]
      exact congrArg (kk _) (nI_1 k)
    · rw [if_neg hc, if_pos (nI_le (by omega) (by omega))]
      exact congrArg (kk _) (nI_1 k)
  · rintro kk _ rfl
    exact if_pos (by decide)
theorem op_felt {a v w n m nn nl nw : Nat} {S : sT} {P : pT} {Y I Z : zT} (hR0 : Rel a v w S P Y I n Z m nn nl nw) : Op a v w S P I n (fX0_felt S P (enc a Y I) a) (fX4_felt Z) := by
  have hR := R_z (f := 0) (i := 0) (x := (0 : Int32)) rfl hR0
  unfold fX4_felt
  generalize zset Z 0 0 (0 : Int32) = Z1 at hR ⊢
  clear hR0
  obtain ⟨⟨hv, hw, hA, h4, h5, hL, hM⟩, hn, hX, hN, hB, hC, hP, hK⟩ := id hR
  have hm4 : m ≤ 4 := hN.2.1.1
  have hn20 : nn ≤ 20 := hN.2.1.2.1
  have hl99 : nl ≤ 99 := hN.2.1.2.2.1
  have hw9 : nw ≤ 9 := hN.2.1.2.2.2
  obtain ⟨Y', y1, y2, y3⟩ := e_sort (J := fun (I101 : zT) => nj (it1 (lX0_felt_107 S P a (q11 v) (q12 v) I101) FU) fun k107 => k107 (1000000 : Int32) (0 : Int32)) hR
  obtain ⟨Z', z1, z2, z3⟩ := m_sort (J := fun (Z100 : zT) => nj (it1 (lX4_felt_106 Z100) FU) fun k106 => k106 (1000000 : Int32) (0 : Int32)) hB
  have hRy : Rel a v w S P Y' I n Z1 m nn nl nw := R_yy (fun g hg => y1 g (by omega)) hR
  have hRf : Rel a v w S P Y' I n Z' m nn nl nw := R_zz (fun g hg => z1 g (by rintro rfl; exact absurd hg (by decide))) hRy
  refine ⟨nI (mno (fv Z1) 512), Y', Z', m, nn, nl, nw, ?_, ?_, hRf⟩
  · unfold fX0_felt
    rw [gd_of (LA_ka hA), h4, bd_s, gd_of (LV_kv hL), LV_p11 hL, bd_s, LV_p12 hL, bd_s, njE, njE]
    refine Eq.trans y3 ?_
    rw [njE]
    exact e_least hRy y2
  · rw [nmE, njE, njE]
    refine Eq.trans z3 ?_
    rw [njE]
    exact m_least hB (z1 52 (by omega)) (z1 53 (by omega)) z2
