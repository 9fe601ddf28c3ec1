/-! LAYER 2: felt: the order of spots on both sides -/
theorem it2_up {ρ σ A : Type} {b : (σ → A → Int32 → Option ρ) → σ → A → Int32 → Option ρ} {Q : Option ρ → Prop} {N : Nat} (Inv : Nat → σ → A → Prop) (hs : ∀ k i s x, i < N → Inv i s x → ∃ s' x', b k s x (nI i) = k s' x' (nI (i + 1)) ∧ Inv (i + 1) s' x') (he : ∀ k s x, Inv N s x → Q (b k s x (nI N))) {F : Nat} {s : σ} {x : A} (hF : N < F) (h0 : Inv 0 s x) : Q (it2 b F s x (nI 0)) := by
  refine it2_m (fun m s x y => ∃ i, y = nI i ∧ i + m = N ∧ Inv i s x) ?_ F N s x (nI 0) hF ⟨0, rfl, by omega, h0⟩
  rintro k m s x y ⟨i, rfl, hm, hi⟩
  rcases Nat.eq_zero_or_pos m with rfl | hp
  · obtain rfl : i = N := by omega
    exact Or.inl (he k s x hi)
  · obtain ⟨s', x', h1, h2⟩ := hs k i s x (by omega) hi
    exact Or.inr ⟨m - 1, s', x', nI (i + 1), by omega, h1, i + 1, rfl, by omega, h2⟩
theorem it3_up {ρ σ A B : Type} {b : (σ → A → B → Int32 → Option ρ) → σ → A → B → Int32 → Option ρ} {Q : Option ρ → Prop} {N : Nat} (Inv : Nat → σ → A → B → Prop) (hs : ∀ k i s x y, i < N → Inv i s x y → ∃ s' x' y', b k s x y (nI i) = k s' x' y' (nI (i + 1)) ∧ Inv (i + 1) s' x' y') (he : ∀ k s x y, Inv N s x y → Q (b k s x y (nI N))) {F : Nat} {s : σ} {x : A} {y : B} (hF : N < F) (h0 : Inv 0 s x y) : Q (it3 b F s x y (nI 0)) := by
  refine it3_m (fun m s x y z => ∃ i, z = nI i ∧ i + m = N ∧ Inv i s x y) ?_ F N s x y (nI 0) hF ⟨0, rfl, by omega, h0⟩
  rintro k m s x y z ⟨i, rfl, hm, hi⟩
  rcases Nat.eq_zero_or_pos m with rfl | hp
  · obtain rfl : i = N := by omega
    exact Or.inl (he k s x y hi)
  · obtain ⟨s', x', y', h1, h2⟩ := hs k i s x y (by omega) hi
    exact Or.inr ⟨m - 1, s', x', y', nI (i + 1), by omega, h1, i + 1, rfl, by omega, h2⟩
def upn (b : Nat → Nat) (i x : Nat) : Nat → Nat := fun j => if j = i then x else b j
theorem upn_e {b : Nat → Nat} {i x : Nat} : upn b i x i = x := if_pos rfl
theorem upn_n {b : Nat → Nat} {i x j : Nat} (h : j ≠ i) : upn b i x j = b j := if_neg h
/-- one spot comes to its place -/
def ins (C : Nat → Nat → Bool) (s : Nat) : Nat → (Nat → Nat) → (Nat → Nat)
  | 0, b => upn b 0 s
  | i + 1, b => if C s (b i) then ins C s i (upn b (i + 1) (b i)) else upn b (i + 1) s
def wt (Z : zT) (s : Nat) : Nat := ix (Z 52 s)
def tt (Z : zT) (s : Nat) : Nat := ix (Z 53 s) + 1
theorem wt_k {Z : zT} (hB : MB Z) (s : Nat) : wt Z s ≤ 99 ∧ Z 52 s = nI (wt Z s) := by
  obtain ⟨k, hk, e⟩ := MB_at hB 52 s (by decide)
  have hk : k ≤ 99 := hk
  unfold wt
  rw [e, ni_ix (by omega)]
  exact ⟨hk, rfl⟩
theorem tt_k {Z : zT} (hB : MB Z) (s : Nat) : 1 ≤ tt Z s ∧ tt Z s ≤ 9 ∧ Z 53 s + nI 1 = nI (tt Z s) := by
  obtain ⟨k, hk, e⟩ := MB_at hB 53 s (by decide)
  have hk : k ≤ 8 := hk
  unfold tt
  rw [e, ni_ix (by omega), ni_add]
  exact ⟨by omega, by omega, rfl⟩
/-- worth more for its time -/
def cmp (Z : zT) (s q : Nat) : Bool := decide (tt Z s * wt Z q < tt Z q * wt Z s)
def srt (Z : zT) : Nat → (Nat → Nat)
  | 0 => fun _ => 0
  | k + 1 => ins (cmp Z) k k (srt Z k)
theorem ins_lt {C : Nat → Nat → Bool} {s : Nat} (hs : s < 9) : ∀ i b, (∀ j, b j < 9) → ∀ j, ins C s i b j < 9 := by
  intro i
  induction i with
  | zero =>
    intro b hb j
    show upn b 0 s j < 9
    unfold upn
    split
    · exact hs
    · exact hb j
  | succ i ih =>
    intro b hb j
    show (if C s (b i) then ins C s i (upn b (i + 1) (b i)) else upn b (i + 1) s) j < 9
    split
    · refine ih _ (fun j => ?_) j
      unfold upn
      split
      · exact hb i
      · exact hb j
    · unfold upn
      split
      · exact hs
      · exact hb j
theorem srt_lt {Z : zT} {k : Nat} (hk : k ≤ 9) : ∀ j, srt Z k j < 9 := by
  induction k with
  | zero => intro j; show 0 < 9; omega
  | succ k ih => exact ins_lt (by omega) k _ (ih (by omega))
theorem pr_le {x y p q : Nat} (h1 : x ≤ p) (h2 : y ≤ q) : x * y ≤ p * q := Nat.mul_le_mul h1 h2
theorem e_ins {a v w n m nn nl nw : Nat} {S : sT} {P : pT} {Y I Z : zT} {J : zT → Int32 → Option (Int32 × zT)} {s : Nat} (hR : Rel a v w S P Y I n Z m nn nl nw) (hs : s < 9) : ∀ i b Y', i ≤ s → (∀ g, g ≠ 214 → Y' g = Y g) → (∀ j, b j < 9) → (∀ j, j ≤ s → j ≠ i → Y' 214 j = nI (b j)) →
    ∃ Y'' i', i' ≤ s ∧ (∀ g, g ≠ 214 → Y'' g = Y g) ∧ (∀ j, j ≤ s → j ≠ i' → Y'' 214 j = nI (ins (cmp Z) s i b j)) ∧ ins (cmp Z) s i b i' = s ∧ ∀ F, it1 (lX0_felt_27 S P a (q11 v) (q12 v) (nI s) J) (F + i + 1) (enc a Y' I) (nI i) = J (enc a Y'' I) (nI i') := by
  obtain ⟨⟨hv, hw, hA, h4, h5, hL, hM⟩, hn, hX, hN, hB, hC, hP, hK⟩ := id hR
  have hm4 : m ≤ 4 := hN.2.1.1
  have hn20 : nn ≤ 20 := hN.2.1.2.1
  have hl99 : nl ≤ 99 := hN.2.1.2.2.1
  have hw9 : nw ≤ 9 := hN.2.1.2.2.2
  intro i
  induction i with
  | zero =>
    intro b Y' _ hy hb hj
    refine ⟨Y', 0, by omega, hy, fun j h1 h2 => ?_, upn_e, fun F => ?_⟩
    · rw [hj j h1 h2]
      exact congrArg nI (upn_n h2).symm
    · rw [it1_s]
      exact if_pos (by decide)
  | succ i ih =>
    intro b Y' hi hy hb hj
    have hbi : Y' 214 i = nI (b i) := hj i (by omega) (by omega)
    have hq := hb i
    generalize hqe : b i = q at hbi hq
    have h53 : ∀ x, x < 9 → Y' 53 x = nI (tt Z x) := fun x hx => by rw [hy 53 (by omega), VN_53 hN hx]; exact (tt_k hB x).2.2
    have h52 : ∀ x, x < 9 → Y' 52 x = nI (wt Z x) := fun x hx => by rw [hy 52 (by omega), VN_52 hN hx]; exact (wt_k hB x).2
    have e1 := h53 q hq
    have e2 := h53 s hs
    have e3 := h52 q hq
    have e4 := h52 s hs
    have b1 : tt Z q * wt Z s ≤ 9 * 99 := pr_le (tt_k hB q).2.1 (wt_k hB s).1
    have b2 : tt Z s * wt Z q ≤ 9 * 99 := pr_le (tt_k hB s).2.1 (wt_k hB q).1
    have hstep : ∀ kk : zT → Int32 → Option (Int32 × zT), lX0_felt_27 S P a (q11 v) (q12 v) (nI s) J kk (enc a Y' I) (nI (i + 1)) = if cmp Z s q = true then kk (enc a (zset Y' 214 (i + 1) (nI q)) I) (nI i) else J (enc a Y' I) (nI (i + 1)) := by
      intro kk
      have hm1 : nI (i + 1) + (-1 : Int32) = nI i := by rw [ni_dec (by omega), Nat.add_sub_cancel]
      by_cases hc : tt Z s * wt Z q < tt Z q * wt Z s
      · rw [if_pos (show cmp Z s q = true from decide_eq_true hc)]
        unfold lX0_felt_27
        ((repeat (first | (with_reducible refine Eq.trans njE ?_; (try dsimp only)) | ((conv => lhs; arg 1; simp (maxSteps := 1000000) (disch := omega) only [e1, e2, e3, e4, hbi, ni_dec', LA_ka hA, LA_p14 hA, LA_k14 hA, LA_n14 hA, LV_kv hL, LV_p11 hL, LV_k11 hL, LV_n11 hL, LV_kv hL, LV_p12 hL, LV_k12 hL, LV_n12 hL, er_by, ew_by, er_we hv, er_ti hv, li_0, li_1, li_2, li_3, li_4, li_5, li_6, li_7, li_8, li_9, li_10, li_11, li_12, li_13, li_14, li_15, li_16, li_17, li_18, li_19, li_20, li_21, li_22, li_23, li_24, li_25, li_26, li_27, li_28, li_29, li_30, li_31, li_32, li_33, li_34, li_35, li_36, li_37, li_38, li_39, li_40, li_41, li_42, li_43, li_44, li_45, li_48, li_57, li_59, li_61, li_63, li_64, li_65, li_72, li_90, li_97, li_99, li_101, li_102, li_103, li_104, li_105, li_108, li_109, li_111, li_114, li_115, li_116, li_117, li_118, li_120, li_121, li_122, li_216, li_240, li_255, li_256, li_380, li_400, li_480, li_511, li_512, li_729, li_1000, li_5184, li_10000, li_46656, li_65536, li_99999, li_1000000, ni_add, ni_mul, ni_sub, ni_ix, inb_t, ni_le_t, ni_le_f, ni_lt_t, ni_lt_f, ni_eq_t, ni_eq_f, ni_m1, ni_m1', ni_mn, ni_mn', Nat.add_sub_cancel, Nat.add_zero, zr_ne, zr_ni, zr_eq, gd_t, bd_s, if_true, if_false, Bool.not_true, Bool.not_false, ↓reduceIte, decide_false, decide_true]); (first | with_reducible refine Eq.trans gd_t ?_ | with_reducible refine Eq.trans bd_s ?_ | with_reducible refine Eq.trans bdp_s ?_ | with_reducible refine Eq.trans (if_pos trivial) ?_ | with_reducible refine Eq.trans (if_neg not_false) ?_ | with_reducible refine Eq.trans nmE ?_))));  (try simp (maxSteps := 1000000) (disch := omega) only [e1, e2, e3, e4, hbi, ni_dec', LA_ka hA, LA_p14 hA, LA_k14 hA, LA_n14 hA, LV_kv hL, LV_p11 hL, LV_k11 hL, LV_n11 hL, LV_kv hL, LV_p12 hL, LV_k12 hL, LV_n12 hL, er_by, ew_by, er_we hv, er_ti hv, li_0, li_1, li_2, li_3, li_4, li_5, li_6, li_7, li_8, li_9, li_10, li_11, li_12, li_13, li_14, li_15, li_16, li_17, li_18, li_19, li_20, li_21, li_22, li_23, li_24, li_25, li_26, li_27, li_28, li_29, li_30, li_31, li_32, li_33, li_34, li_35, li_36, li_37, li_38, li_39, li_40, li_41, li_42, li_43, li_44, li_45, li_48, li_57, li_59, li_61, li_63, li_64, li_65, li_72, li_90, li_97, li_99, li_101, li_102, li_103, li_104, li_105, li_108, li_109, li_111, li_114, li_115, li_116, li_117, li_118, li_120, li_121, li_122, li_216, li_240, li_255, li_256, li_380, li_400, li_480, li_511, li_512, li_729, li_1000, li_5184, li_10000, li_46656, li_65536, li_99999, li_1000000, ni_add, ni_mul, ni_sub, ni_ix, inb_t, ni_le_t, ni_le_f, ni_lt_t, ni_lt_f, ni_eq_t, ni_eq_f, ni_m1, ni_m1', ni_mn, ni_mn', Nat.add_sub_cancel, Nat.add_zero, zr_ne, zr_ni, zr_eq, gd_t, bd_s, if_true, if_false, Bool.not_true, Bool.not_false, ↓reduceIte, decide_false, decide_true]))
      · rw [if_neg (show ¬ cmp Z s q = true from fun h => hc (of_decide_eq_true h))]
        unfold lX0_felt_27
        ((repeat (first | (with_reducible refine Eq.trans njE ?_; (try dsimp only)) | ((conv => lhs; arg 1; simp (maxSteps := 1000000) (disch := omega) only [e1, e2, e3, e4, hbi, ni_dec', LA_ka hA, LA_p14 hA, LA_k14 hA, LA_n14 hA, LV_kv hL, LV_p11 hL, LV_k11 hL, LV_n11 hL, LV_kv hL, LV_p12 hL, LV_k12 hL, LV_n12 hL, er_by, ew_by, er_we hv, er_ti hv, li_0, li_1, li_2, li_3, li_4, li_5, li_6, li_7, li_8, li_9, li_10, li_11, li_12, li_13, li_14, li_15, li_16, li_17, li_18, li_19, li_20, li_21, li_22, li_23, li_24, li_25, li_26, li_27, li_28, li_29, li_30, li_31, li_32, li_33, li_34, li_35, li_36, li_37, li_38, li_39, li_40, li_41, li_42, li_43, li_44, li_45, li_48, li_57, li_59, li_61, li_63, li_64, li_65, li_72, li_90, li_97, li_99, li_101, li_102, li_103, li_104, li_105, li_108, li_109, li_111, li_114, li_115, li_116, li_117, li_118, li_120, li_121, li_122, li_216, li_240, li_255, li_256, li_380, li_400, li_480, li_511, li_512, li_729, li_1000, li_5184, li_10000, li_46656, li_65536, li_99999, li_1000000, ni_add, ni_mul, ni_sub, ni_ix, inb_t, ni_le_t, ni_le_f, ni_lt_t, ni_lt_f, ni_eq_t, ni_eq_f, ni_m1, ni_m1', ni_mn, ni_mn', Nat.add_sub_cancel, Nat.add_zero, zr_ne, zr_ni, zr_eq, gd_t, bd_s, if_true, if_false, Bool.not_true, Bool.not_false, ↓reduceIte, decide_false, decide_true]); (first | with_reducible refine Eq.trans gd_t ?_ | with_reducible refine Eq.trans bd_s ?_ | with_reducible refine Eq.trans bdp_s ?_ | with_reducible refine Eq.trans (if_pos trivial) ?_ | with_reducible refine Eq.trans (if_neg not_false) ?_ | with_reducible refine Eq.trans nmE ?_))));  (try simp (maxSteps := 1000000) (disch := omega) only [e1, e2, e3, e4, hbi, ni_dec', LA_ka hA, LA_p14 hA, LA_k14 hA, LA_n14 hA, LV_kv hL, LV_p11 hL, LV_k11 hL, LV_n11 hL, LV_kv hL, LV_p12 hL, LV_k12 hL, LV_n12 hL, er_by, ew_by, er_we hv, er_ti hv, li_0, li_1, li_2, li_3, li_4, li_5, li_6, li_7, li_8, li_9, li_10, li_11, li_12, li_13, li_14, li_15, li_16, li_17, li_18, li_19, li_20, li_21, li_22, li_23, li_24, li_25, li_26, li_27, li_28, li_29, li_30, li_31, li_32, li_33, li_34, li_35, li_36, li_37, li_38, li_39, li_40, li_41, li_42, li_43, li_44, li_45, li_48, li_57, li_59, li_61, li_63, li_64, li_65, li_72, li_90, li_97, li_99, li_101, li_102, li_103, li_104, li_105, li_108, li_109, li_111, li_114, li_115, li_116, li_117, li_118, li_120, li_121, li_122, li_216, li_240, li_255, li_256, li_380, li_400, li_480, li_511, li_512, li_729, li_1000, li_5184, li_10000, li_46656, li_65536, li_99999, li_1000000, ni_add, ni_mul, ni_sub, ni_ix, inb_t, ni_le_t, ni_le_f, ni_lt_t, ni_lt_f, ni_eq_t, ni_eq_f, ni_m1, ni_m1', ni_mn, ni_mn', Nat.add_sub_cancel, Nat.add_zero, zr_ne, zr_ni, zr_eq, gd_t, bd_s, if_true, if_false, Bool.not_true, Bool.not_false, ↓reduceIte, decide_false, decide_true]))
    by_cases hc : cmp Z s q = true
    · have hins : ins (cmp Z) s (i + 1) b = ins (cmp Z) s i (upn b (i + 1) q) := by
        show (if cmp Z s (b i) then ins (cmp Z) s i (upn b (i + 1) (b i)) else upn b (i + 1) s) = _
        rw [hqe, if_pos hc]
      rw [hins]
      obtain ⟨Y'', i', g1, g2, g3, g4, g5⟩ := ih (upn b (i + 1) q) (zset Y' 214 (i + 1) (nI q)) (by omega) (fun g hg => by rw [zs_ne hg]; exact hy g hg) (fun j => by
        unfold upn
        split
        · exact hq
        · exact hb j) (fun j h1 h2 => by
        by_cases e : j = i + 1
        · subst e; rw [zr_eq, upn_e]
        · rw [zr_ni e, upn_n e]; exact hj j h1 e)
      refine ⟨Y'', i', g1, g2, g3, g4, fun F => ?_⟩
      rw [it1_s, hstep, if_pos hc]
      exact g5 F
    · have hins : ins (cmp Z) s (i + 1) b = upn b (i + 1) s := by
        show (if cmp Z s (b i) then ins (cmp Z) s i (upn b (i + 1) (b i)) else upn b (i + 1) s) = _
        rw [hqe, if_neg hc]
      rw [hins]
      refine ⟨Y', i + 1, hi, hy, fun j h1 h2 => ?_, upn_e, fun F => ?_⟩
      · rw [upn_n h2]; exact hj j h1 h2
      · rw [it1_s, hstep, if_neg hc]
theorem m_ins {J : zT → Int32 → Option (Int32 × zT)} {Z : zT} {s : Nat} (hB : MB Z) (hs : s < 9) : ∀ i b Z', i ≤ s → (∀ g, g ≠ 54 → Z' g = Z g) → (∀ j, b j < 9) → (∀ j, j ≤ s → j ≠ i → Z' 54 j = nI (b j)) →
    ∃ Z'' i', i' ≤ s ∧ (∀ g, g ≠ 54 → Z'' g = Z g) ∧ (∀ j, j ≤ s → j ≠ i' → Z'' 54 j = nI (ins (cmp Z) s i b j)) ∧ ins (cmp Z) s i b i' = s ∧ ∀ F, it1 (lX4_felt_15 (nI s) J) (F + i + 1) Z' (nI i) = J Z'' (nI i') := by
  intro i
  induction i with
  | zero =>
    intro b Z' _ hy hb hj
    refine ⟨Z', 0, by omega, hy, fun j h1 h2 => ?_, upn_e, fun F => ?_⟩
    · rw [hj j h1 h2]
      exact congrArg nI (upn_n h2).symm
    · rw [it1_s]
      exact if_pos (by decide)
  | succ i ih =>
    intro b Z' hi hy hb hj
    have hbi : Z' 54 i = nI (b i) := hj i (by omega) (by omega)
    have hq := hb i
    generalize hqe : b i = q at hbi hq
    have e1 : Z' 53 q + nI 1 = nI (tt Z q) := by rw [hy 53 (by omega)]; exact (tt_k hB q).2.2
    have e2 : Z' 53 s + nI 1 = nI (tt Z s) := by rw [hy 53 (by omega)]; exact (tt_k hB s).2.2
    have e3 : Z' 52 q = nI (wt Z q) := by rw [hy 52 (by omega)]; exact (wt_k hB q).2
    have e4 : Z' 52 s = nI (wt Z s) := by rw [hy 52 (by omega)]; exact (wt_k hB s).2
    have b1 : wt Z s * tt Z q ≤ 99 * 9 := pr_le (wt_k hB s).1 (tt_k hB q).2.1
    have b2 : wt Z q * tt Z s ≤ 99 * 9 := pr_le (wt_k hB q).1 (tt_k hB s).2.1
    have hstep : ∀ kk : zT → Int32 → Option (Int32 × zT), lX4_felt_15 (nI s) J kk Z' (nI (i + 1)) = if cmp Z s q = true then kk (zset Z' 54 (i + 1) (nI q)) (nI i) else J Z' (nI (i + 1)) := by
      intro kk
      by_cases hc : wt Z q * tt Z s < wt Z s * tt Z q
      · rw [if_pos (show cmp Z s q = true from decide_eq_true (by rw [Nat.mul_comm (tt Z s), Nat.mul_comm (tt Z q)]; exact hc))]
        unfold lX4_felt_15
        ((repeat (first | (with_reducible refine Eq.trans njE ?_; (try dsimp only)) | ((conv => lhs; arg 1; simp (maxSteps := 1000000) (disch := omega) only [e1, e2, e3, e4, hbi, li_0, li_1, li_2, li_3, li_4, li_5, li_6, li_7, li_8, li_9, li_10, li_11, li_12, li_13, li_14, li_15, li_16, li_17, li_18, li_19, li_20, li_21, li_22, li_23, li_24, li_25, li_26, li_27, li_28, li_29, li_30, li_31, li_32, li_33, li_34, li_35, li_36, li_37, li_38, li_39, li_40, li_41, li_42, li_43, li_44, li_45, li_48, li_57, li_59, li_61, li_63, li_64, li_65, li_72, li_90, li_97, li_99, li_101, li_102, li_103, li_104, li_105, li_108, li_109, li_111, li_114, li_115, li_116, li_117, li_118, li_120, li_121, li_122, li_216, li_240, li_255, li_256, li_380, li_400, li_480, li_511, li_512, li_729, li_1000, li_5184, li_10000, li_46656, li_65536, li_99999, li_1000000, ni_add, ni_mul, ni_sub, ni_ix, inb_t, ni_le_t, ni_le_f, ni_lt_t, ni_lt_f, ni_eq_t, ni_eq_f, ni_m1, ni_m1', ni_mn, ni_mn', Nat.add_sub_cancel, Nat.add_zero, zr_ne, zr_ni, zr_eq, gd_t, bd_s, if_true, if_false, Bool.not_true, Bool.not_false, ↓reduceIte, decide_false, decide_true]); (first | with_reducible refine Eq.trans gd_t ?_ | with_reducible refine Eq.trans bd_s ?_ | with_reducible refine Eq.trans bdp_s ?_ | with_reducible refine Eq.trans (if_pos trivial) ?_ | with_reducible refine Eq.trans (if_neg not_false) ?_ | with_reducible refine Eq.trans nmE ?_))));  (try simp (maxSteps := 1000000) (disch := omega) only [e1, e2, e3, e4, hbi, li_0, li_1, li_2, li_3, li_4, li_5, li_6, li_7, li_8, li_9, li_10, li_11, li_12, li_13, li_14, li_15, li_16, li_17, li_18, li_19, li_20, li_21, li_22, li_23, li_24, li_25, li_26, li_27, li_28, li_29, li_30, li_31, li_32, li_33, li_34, li_35, li_36, li_37, li_38, li_39, li_40, li_41, li_42, li_43, li_44, li_45, li_48, li_57, li_59, li_61, li_63, li_64, li_65, li_72, li_90, li_97, li_99, li_101, li_102, li_103, li_104, li_105, li_108, li_109, li_111, li_114, li_115, li_116, li_117, li_118, li_120, li_121, li_122, li_216, li_240, li_255, li_256, li_380, li_400, li_480, li_511, li_512, li_729, li_1000, li_5184, li_10000, li_46656, li_65536, li_99999, li_1000000, ni_add, ni_mul, ni_sub, ni_ix, inb_t, ni_le_t, ni_le_f, ni_lt_t, ni_lt_f, ni_eq_t, ni_eq_f, ni_m1, ni_m1', ni_mn, ni_mn', Nat.add_sub_cancel, Nat.add_zero, zr_ne, zr_ni, zr_eq, gd_t, bd_s, if_true, if_false, Bool.not_true, Bool.not_false, ↓reduceIte, decide_false, decide_true]))
      · rw [if_neg (show ¬ cmp Z s q = true from fun h => hc (by have := of_decide_eq_true h; rw [Nat.mul_comm (tt Z s), Nat.mul_comm (tt Z q)] at this; exact this))]
        unfold lX4_felt_15
        ((repeat (first | (with_reducible refine Eq.trans njE ?_; (try dsimp only)) | ((conv => lhs; arg 1; simp (maxSteps := 1000000) (disch := omega) only [e1, e2, e3, e4, hbi, li_0, li_1, li_2, li_3, li_4, li_5, li_6, li_7, li_8, li_9, li_10, li_11, li_12, li_13, li_14, li_15, li_16, li_17, li_18, li_19, li_20, li_21, li_22, li_23, li_24, li_25, li_26, li_27, li_28, li_29, li_30, li_31, li_32, li_33, li_34, li_35, li_36, li_37, li_38, li_39, li_40, li_41, li_42, li_43, li_44, li_45, li_48, li_57, li_59, li_61, li_63, li_64, li_65, li_72, li_90, li_97, li_99, li_101, li_102, li_103, li_104, li_105, li_108, li_109, li_111, li_114, li_115, li_116, li_117, li_118, li_120, li_121, li_122, li_216, li_240, li_255, li_256, li_380, li_400, li_480, li_511, li_512, li_729, li_1000, li_5184, li_10000, li_46656, li_65536, li_99999, li_1000000, ni_add, ni_mul, ni_sub, ni_ix, inb_t, ni_le_t, ni_le_f, ni_lt_t, ni_lt_f, ni_eq_t, ni_eq_f, ni_m1, ni_m1', ni_mn, ni_mn', Nat.add_sub_cancel, Nat.add_zero, zr_ne, zr_ni, zr_eq, gd_t, bd_s, if_true, if_false, Bool.not_true, Bool.not_false, ↓reduceIte, decide_false, decide_true]); (first | with_reducible refine Eq.trans gd_t ?_ | with_reducible refine Eq.trans bd_s ?_ | with_reducible refine Eq.trans bdp_s ?_ | with_reducible refine Eq.trans (if_pos trivial) ?_ | with_reducible refine Eq.trans (if_neg not_false) ?_ | with_reducible refine Eq.trans nmE ?_))));  (try simp (maxSteps := 1000000) (disch := omega) only [e1, e2, e3, e4, hbi, li_0, li_1, li_2, li_3, li_4, li_5, li_6, li_7, li_8, li_9, li_10, li_11, li_12, li_13, li_14, li_15, li_16, li_17, li_18, li_19, li_20, li_21, li_22, li_23, li_24, li_25, li_26, li_27, li_28, li_29, li_30, li_31, li_32, li_33, li_34, li_35, li_36, li_37, li_38, li_39, li_40, li_41, li_42, li_43, li_44, li_45, li_48, li_57, li_59, li_61, li_63, li_64, li_65, li_72, li_90, li_97, li_99, li_101, li_102, li_103, li_104, li_105, li_108, li_109, li_111, li_114, li_115, li_116, li_117, li_118, li_120, li_121, li_122, li_216, li_240, li_255, li_256, li_380, li_400, li_480, li_511, li_512, li_729, li_1000, li_5184, li_10000, li_46656, li_65536, li_99999, li_1000000, ni_add, ni_mul, ni_sub, ni_ix, inb_t, ni_le_t, ni_le_f, ni_lt_t, ni_lt_f, ni_eq_t, ni_eq_f, ni_m1, ni_m1', ni_mn, ni_mn', Nat.add_sub_cancel, Nat.add_zero, zr_ne, zr_ni, zr_eq, gd_t, bd_s, if_true, if_false, Bool.not_true, Bool.not_false, ↓reduceIte, decide_false, decide_true]))
    by_cases hc : cmp Z s q = true
    · have hins : ins (cmp Z) s (i + 1) b = ins (cmp Z) s i (upn b (i + 1) q) := by
        show (if cmp Z s (b i) then ins (cmp Z) s i (upn b (i + 1) (b i)) else upn b (i + 1) s) = _
        rw [hqe, if_pos hc]
      rw [hins]
      obtain ⟨Z'', i', g1, g2, g3, g4, g5⟩ := ih (upn b (i + 1) q) (zset Z' 54 (i + 1) (nI q)) (by omega) (fun g hg => by rw [zs_ne hg]; exact hy g hg) (fun j => by
        unfold upn
        split
        · exact hq
        · exact hb j) (fun j h1 h2 => by
        by_cases e : j = i + 1
        · subst e; rw [zr_eq, upn_e]
        · rw [zr_ni e, upn_n e]; exact hj j h1 e)
      refine ⟨Z'', i', g1, g2, g3, g4, fun F => ?_⟩
      rw [it1_s, hstep, if_pos hc]
      exact g5 F
    · have hins : ins (cmp Z) s (i + 1) b = upn b (i + 1) s := by
        show (if cmp Z s (b i) then ins (cmp Z) s i (upn b (i + 1) (b i)) else upn b (i + 1) s) = _
        rw [hqe, if_neg hc]
      rw [hins]
      refine ⟨Z', i + 1, hi, hy, fun j h1 h2 => ?_, upn_e, fun F => ?_⟩
      · rw [upn_n h2]; exact hj j h1 h2
      · rw [it1_s, hstep, if_neg hc]
/-- the whole order -/
theorem e_sort {a v w n m nn nl nw : Nat} {S : sT} {P : pT} {Y I Z : zT} {J : zT → Option (Int32 × zT)} (hR : Rel a v w S P Y I n Z m nn nl nw) : ∃ Y'', (∀ g, g ≠ 214 → Y'' g = Y g) ∧ (∀ j, j < 9 → Y'' 214 j = nI (srt Z 9 j)) ∧ it1 (lX0_felt_18 S P a (q11 v) (q12 v) J) FU (enc a Y I) (nI 0) = J (enc a Y'' I) := by
  obtain ⟨⟨hv, hw, hA, h4, h5, hL, hM⟩, hn, hX, hN, hB, hC, hP, hK⟩ := id hR
  have hm4 : m ≤ 4 := hN.2.1.1
  have hn20 : nn ≤ 20 := hN.2.1.2.1
  have hl99 : nl ≤ 99 := hN.2.1.2.2.1
  have hw9 : nw ≤ 9 := hN.2.1.2.2.2
  refine it1_up (Q := fun o => ∃ Y'', (∀ g, g ≠ 214 → Y'' g = Y g) ∧ (∀ j, j < 9 → Y'' 214 j = nI (srt Z 9 j)) ∧ o = J (enc a Y'' I)) (N := 9) (fun k I' => ∃ Y', I' = enc a Y' I ∧ (∀ g, g ≠ 214 → Y' g = Y g) ∧ ∀ j, j < k → Y' 214 j = nI (srt Z k j)) ?_ ?_ (F := FU) (FU_lt (by omega)) ⟨Y, rfl, fun _ _ => rfl, fun j hj => absurd hj (by omega)⟩
  · rintro kk k _ hk ⟨Y', rfl, hy, hj⟩
    have h0 := fun J => e_ins (J := J) (s := k) hR hk k (srt Z k) Y' (Nat.le_refl _) hy (srt_lt (by omega)) (fun j h1 h2 => hj j (by omega))
    unfold lX0_felt_18
    rw [if_neg (show ¬ (9 : Int32) ≤ nI k from nI_ge (b := 9) hk (by omega)), njE, njE]
    obtain ⟨Y'', i', g1, g2, g3, g4, g5⟩ := h0 (fun (I87 : zT) (x4_87 : Int32) =>
      bd (P a 14) fun (b_29 : Nat) =>
      gd (isk S b_29 20) <|
      gd (inb x4_87 (S b_29).2) <|
      nm (zset I87 b_29 (ix x4_87) (nI k)) fun (I_32 : zT) =>
      nm (nI k + (1 : Int32)) fun (x3_33 : Int32) =>
      kk I_32 x3_33)
    have hg := g5 (999999999999 - k)
    rw [show 999999999999 - k + k + 1 = FU from by show _ = 1000000000000; omega] at hg
    refine ⟨enc a (zset Y'' 214 i' (nI k)) I, ?_, zset Y'' 214 i' (nI k), rfl, fun g hg => by rw [zs_ne hg]; exact g2 g hg, fun j hj => ?_⟩
    · refine Eq.trans hg ?_
      have hi9 : i' < 9 := by omega
      ((repeat (first | (with_reducible refine Eq.trans njE ?_; (try dsimp only)) | ((conv => lhs; arg 1; simp (maxSteps := 1000000) (disch := omega) only [LA_ka hA, LA_p14 hA, LA_k14 hA, LA_n14 hA, LV_kv hL, LV_p11 hL, LV_k11 hL, LV_n11 hL, LV_kv hL, LV_p12 hL, LV_k12 hL, LV_n12 hL, er_by, ew_by, er_we hv, er_ti hv, li_0, li_1, li_2, li_3, li_4, li_5, li_6, li_7, li_8, li_9, li_10, li_11, li_12, li_13, li_14, li_15, li_16, li_17, li_18, li_19, li_20, li_21, li_22, li_23, li_24, li_25, li_26, li_27, li_28, li_29, li_30, li_31, li_32, li_33, li_34, li_35, li_36, li_37, li_38, li_39, li_40, li_41, li_42, li_43, li_44, li_45, li_48, li_57, li_59, li_61, li_63, li_64, li_65, li_72, li_90, li_97, li_99, li_101, li_102, li_103, li_104, li_105, li_108, li_109, li_111, li_114, li_115, li_116, li_117, li_118, li_120, li_121, li_122, li_216, li_240, li_255, li_256, li_380, li_400, li_480, li_511, li_512, li_729, li_1000, li_5184, li_10000, li_46656, li_65536, li_99999, li_1000000, ni_add, ni_mul, ni_sub, ni_ix, inb_t, ni_le_t, ni_le_f, ni_lt_t, ni_lt_f, ni_eq_t, ni_eq_f, ni_m1, ni_m1', ni_mn, ni_mn', Nat.add_sub_cancel, Nat.add_zero, zr_ne, zr_ni, zr_eq, gd_t, bd_s, if_true, if_false, Bool.not_true, Bool.not_false, ↓reduceIte, decide_false, decide_true]); (first | with_reducible refine Eq.trans gd_t ?_ | with_reducible refine Eq.trans bd_s ?_ | with_reducible refine Eq.trans bdp_s ?_ | with_reducible refine Eq.trans (if_pos trivial) ?_ | with_reducible refine Eq.trans (if_neg not_false) ?_ | with_reducible refine Eq.trans nmE ?_))));  (try simp (maxSteps := 1000000) (disch := omega) only [LA_ka hA, LA_p14 hA, LA_k14 hA, LA_n14 hA, LV_kv hL, LV_p11 hL, LV_k11 hL, LV_n11 hL, LV_kv hL, LV_p12 hL, LV_k12 hL, LV_n12 hL, er_by, ew_by, er_we hv, er_ti hv, li_0, li_1, li_2, li_3, li_4, li_5, li_6, li_7, li_8, li_9, li_10, li_11, li_12, li_13, li_14, li_15, li_16, li_17, li_18, li_19, li_20, li_21, li_22, li_23, li_24, li_25, li_26, li_27, li_28, li_29, li_30, li_31, li_32, li_33, li_34, li_35, li_36, li_37, li_38, li_39, li_40, li_41, li_42, li_43, li_44, li_45, li_48, li_57, li_59, li_61, li_63, li_64, li_65, li_72, li_90, li_97, li_99, li_101, li_102, li_103, li_104, li_105, li_108, li_109, li_111, li_114, li_115, li_116, li_117, li_118, li_120, li_121, li_122, li_216, li_240, li_255, li_256, li_380, li_400, li_480, li_511, li_512, li_729, li_1000, li_5184, li_10000, li_46656, li_65536, li_99999, li_1000000, ni_add, ni_mul, ni_sub, ni_ix, inb_t, ni_le_t, ni_le_f, ni_lt_t, ni_lt_f, ni_eq_t, ni_eq_f, ni_m1, ni_m1', ni_mn, ni_mn', Nat.add_sub_cancel, Nat.add_zero, zr_ne, zr_ni, zr_eq, gd_t, bd_s, if_true, if_false, Bool.not_true, Bool.not_false, ↓reduceIte, decide_false, decide_true]))
    · by_cases e : j = i'
      · subst e; rw [zr_eq]; exact congrArg nI g4.symm
      · rw [zr_ni e]; exact g3 j (by omega) e
  · rintro kk _ ⟨Y', rfl, hy, hj⟩
    exact ⟨Y', hy, hj, if_pos (by decide)⟩
theorem m_sort {J : zT → Option (Int32 × zT)} {Z : zT} (hB : MB Z) : ∃ Z'', (∀ g, g ≠ 54 → Z'' g = Z g) ∧ (∀ j, j < 9 → Z'' 54 j = nI (srt Z 9 j)) ∧ it1 (lX4_felt_7 J) FU Z (nI 0) = J Z'' := by
  refine it1_up (Q := fun o => ∃ Z'', (∀ g, g ≠ 54 → Z'' g = Z g) ∧ (∀ j, j < 9 → Z'' 54 j = nI (srt Z 9 j)) ∧ o = J Z'') (N := 9) (fun k (Z' : zT) => (∀ g, g ≠ 54 → Z' g = Z g) ∧ ∀ j, j < k → Z' 54 j = nI (srt Z k j)) ?_ ?_ (F := FU) (FU_lt (by omega)) ⟨fun _ _ => rfl, fun j hj => absurd hj (by omega)⟩
  · rintro kk k Z' hk ⟨hy, hj⟩
    have h0 := fun J => m_ins (J := J) (s := k) hB hk k (srt Z k) Z' (Nat.le_refl _) hy (srt_lt (by omega)) (fun j h1 h2 => hj j (by omega))
    unfold lX4_felt_7
    rw [if_neg (show ¬ (9 : Int32) ≤ nI k from nI_ge (b := 9) hk (by omega)), njE, njE]
    obtain ⟨Z'', i', g1, g2, g3, g4, g5⟩ := h0 (fun (Z87 : zT) (x2_87 : Int32) =>
      gd (inb x2_87 9) <|
      nm (zset Z87 54 (ix x2_87) (nI k)) fun (Z_12 : zT) =>
      nm (nI k + (1 : Int32)) fun (x1_13 : Int32) =>
      kk Z_12 x1_13)
    have hg := g5 (999999999999 - k)
    rw [show 999999999999 - k + k + 1 = FU from by show _ = 1000000000000; omega] at hg
    refine ⟨zset Z'' 54 i' (nI k), ?_, fun g hg => by rw [zs_ne hg]; exact g2 g hg, fun j hj => ?_⟩
    · refine Eq.trans hg ?_
      have hi9 : i' < 9 := by omega
      ((repeat (first | (with_reducible refine Eq.trans njE ?_; (try dsimp only)) | ((conv => lhs; arg 1; simp (maxSteps := 1000000) (disch := omega) only [nmE, li_0, li_1, li_2, li_3, li_4, li_5, li_6, li_7, li_8, li_9, li_10, li_11, li_12, li_13, li_14, li_15, li_16, li_17, li_18, li_19, li_20, li_21, li_22, li_23, li_24, li_25, li_26, li_27, li_28, li_29, li_30, li_31, li_32, li_33, li_34, li_35, li_36, li_37, li_38, li_39, li_40, li_41, li_42, li_43, li_44, li_45, li_48, li_57, li_59, li_61, li_63, li_64, li_65, li_72, li_90, li_97, li_99, li_101, li_102, li_103, li_104, li_105, li_108, li_109, li_111, li_114, li_115, li_116, li_117, li_118, li_120, li_121, li_122, li_216, li_240, li_255, li_256, li_380, li_400, li_480, li_511, li_512, li_729, li_1000, li_5184, li_10000, li_46656, li_65536, li_99999, li_1000000, ni_add, ni_mul, ni_sub, ni_ix, inb_t, ni_le_t, ni_le_f, ni_lt_t, ni_lt_f, ni_eq_t, ni_eq_f, ni_m1, ni_m1', ni_mn, ni_mn', Nat.add_sub_cancel, Nat.add_zero, zr_ne, zr_ni, zr_eq, gd_t, bd_s, if_true, if_false, Bool.not_true, Bool.not_false, ↓reduceIte, decide_false, decide_true]); (first | with_reducible refine Eq.trans gd_t ?_ | with_reducible refine Eq.trans bd_s ?_ | with_reducible refine Eq.trans bdp_s ?_ | with_reducible refine Eq.trans (if_pos trivial) ?_ | with_reducible refine Eq.trans (if_neg not_false) ?_ | with_reducible refine Eq.trans nmE ?_))));  (try simp (maxSteps := 1000000) (disch := omega) only [nmE, li_0, li_1, li_2, li_3, li_4, li_5, li_6, li_7, li_8, li_9, li_10, li_11, li_12, li_13, li_14, li_15, li_16, li_17, li_18, li_19, li_20, li_21, li_22, li_23, li_24, li_25, li_26, li_27, li_28, li_29, li_30, li_31, li_32, li_33, li_34, li_35, li_36, li_37, li_38, li_39, li_40, li_41, li_42, li_43, li_44, li_45, li_48, li_57, li_59, li_61, li_63, li_64, li_65, li_72, li_90, li_97, li_99, li_101, li_102, li_103, li_104, li_105, li_108, li_109, li_111, li_114, li_115, li_116, li_117, li_118, li_120, li_121, li_122, li_216, li_240, li_255, li_256, li_380, li_400, li_480, li_511, li_512, li_729, li_1000, li_5184, li_10000, li_46656, li_65536, li_99999, li_1000000, ni_add, ni_mul, ni_sub, ni_ix, inb_t, ni_le_t, ni_le_f, ni_lt_t, ni_lt_f, ni_eq_t, ni_eq_f, ni_m1, ni_m1', ni_mn, ni_mn', Nat.add_sub_cancel, Nat.add_zero, zr_ne, zr_ni, zr_eq, gd_t, bd_s, if_true, if_false, Bool.not_true, Bool.not_false, ↓reduceIte, decide_false, decide_true]))
    · by_cases e : j = i'
      · subst e; rw [zr_eq]; exact congrArg nI g4.symm
      · rw [zr_ni e]; exact g3 j (by omega) e
  · rintro kk _ ⟨hy, hj⟩
    exact ⟨_, hy, hj, if_pos (by decide)⟩
