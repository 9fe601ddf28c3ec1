/-! LAYER 2: watches: OneEye's side, the operation -/
/-- the scratch numbers of OneEye's watches -/
def fwa (g : Nat) : Prop := g ≠ 215 ∧ g ≠ 216 ∧ g ≠ 217 ∧ g ≠ 218
/-- what stands when the first K ways are seen -/
def stw (Z : zT) (nw K : Nat) (Y : zT) : Prop := (K = 0 → Y 218 0 = (-1 : Int32)) ∧ (0 < K → Y 218 0 = nI (uu Z nw (agm (uu Z nw) (K - 1))) ∧ ∀ j, j < nw → Y 216 j = nI (dg nw (agm (uu Z nw) (K - 1)) j))
theorem e_copy {a v nw : Nat} {S : sT} {P : pT} {Y I : zT} (hv : v = a + 2) (hA : LA S P a) (hw9 : nw ≤ 9) (e55 : Y 55 0 = nI nw) : ∃ Y', (∀ g, g ≠ 216 → Y' g = Y g) ∧ (∀ j, j < nw → Y' 216 j = Y 215 j) ∧ it1 (lX0_gives_149 S P a v) FU (enc a Y I) (nI 0) = some (enc a Y' I) := by
  refine it1_up (Q := fun o => ∃ Y', (∀ g, g ≠ 216 → Y' g = Y g) ∧ (∀ j, j < nw → Y' 216 j = Y 215 j) ∧ o = some (enc a Y' I)) (N := nw) (fun k I' => ∃ Y', I' = enc a Y' I ∧ (∀ g, g ≠ 216 → Y' g = Y g) ∧ ∀ j, j < k → Y' 216 j = Y 215 j) ?_ ?_ (F := FU) (FU_lt (by omega)) ⟨Y, rfl, fun _ _ => rfl, fun j hj => absurd hj (Nat.not_lt_zero _)⟩
  · rintro kk k _ hk ⟨Y', rfl, hy, hj⟩
    have h55 : Y' 55 0 = nI nw := by rw [hy 55 (by omega)]; exact e55
    have h215 : Y' 215 k = Y 215 k := by rw [hy 215 (by omega)]
    refine ⟨enc a (zset Y' 216 k (Y 215 k)) I, ?_, zset Y' 216 k (Y 215 k), rfl, fun g hg => by rw [zs_ne hg]; exact hy g hg, fun j hjk => ?_⟩
    · unfold lX0_gives_149
      ((repeat (first | (with_reducible refine Eq.trans njE ?_; (try dsimp only)) | ((conv => lhs; arg 1; simp (maxSteps := 1000000) (disch := omega) only [LA_ka hA, LA_p15 hA, LA_k15 hA, LA_n15 hA, LA_ka hA, LA_p16 hA, LA_k16 hA, LA_n16 hA, er_s18 hv, er_gi, ew_bg, h55, h215, li_0, li_1, li_2, li_3, li_4, li_5, li_6, li_7, li_8, li_9, li_10, li_11, li_12, li_13, li_14, li_15, li_16, li_17, li_18, li_19, li_20, li_21, li_22, li_23, li_24, li_25, li_26, li_27, li_28, li_29, li_30, li_31, li_32, li_33, li_34, li_35, li_36, li_37, li_38, li_39, li_40, li_41, li_42, li_43, li_44, li_45, li_48, li_57, li_59, li_61, li_63, li_64, li_65, li_72, li_90, li_97, li_99, li_101, li_102, li_103, li_104, li_105, li_108, li_109, li_111, li_114, li_115, li_116, li_117, li_118, li_120, li_121, li_122, li_216, li_240, li_255, li_256, li_380, li_400, li_480, li_511, li_512, li_729, li_1000, li_5184, li_10000, li_46656, li_65536, li_99999, li_1000000, ni_add, ni_mul, ni_sub, ni_ix, inb_t, ni_le_t, ni_le_f, ni_lt_t, ni_lt_f, ni_eq_t, ni_eq_f, ni_m1, ni_m1', ni_mn, ni_mn', Nat.add_sub_cancel, Nat.add_zero, zr_ne, zr_ni, zr_eq, gd_t, bd_s, if_true, if_false, Bool.not_true, Bool.not_false, ↓reduceIte, decide_false, decide_true]); (first | with_reducible refine Eq.trans gd_t ?_ | with_reducible refine Eq.trans bd_s ?_ | with_reducible refine Eq.trans bdp_s ?_ | with_reducible refine Eq.trans (if_pos trivial) ?_ | with_reducible refine Eq.trans (if_neg not_false) ?_ | with_reducible refine Eq.trans nmE ?_))));  (try simp (maxSteps := 1000000) (disch := omega) only [LA_ka hA, LA_p15 hA, LA_k15 hA, LA_n15 hA, LA_ka hA, LA_p16 hA, LA_k16 hA, LA_n16 hA, er_s18 hv, er_gi, ew_bg, h55, h215, li_0, li_1, li_2, li_3, li_4, li_5, li_6, li_7, li_8, li_9, li_10, li_11, li_12, li_13, li_14, li_15, li_16, li_17, li_18, li_19, li_20, li_21, li_22, li_23, li_24, li_25, li_26, li_27, li_28, li_29, li_30, li_31, li_32, li_33, li_34, li_35, li_36, li_37, li_38, li_39, li_40, li_41, li_42, li_43, li_44, li_45, li_48, li_57, li_59, li_61, li_63, li_64, li_65, li_72, li_90, li_97, li_99, li_101, li_102, li_103, li_104, li_105, li_108, li_109, li_111, li_114, li_115, li_116, li_117, li_118, li_120, li_121, li_122, li_216, li_240, li_255, li_256, li_380, li_400, li_480, li_511, li_512, li_729, li_1000, li_5184, li_10000, li_46656, li_65536, li_99999, li_1000000, ni_add, ni_mul, ni_sub, ni_ix, inb_t, ni_le_t, ni_le_f, ni_lt_t, ni_lt_f, ni_eq_t, ni_eq_f, ni_m1, ni_m1', ni_mn, ni_mn', Nat.add_sub_cancel, Nat.add_zero, zr_ne, zr_ni, zr_eq, gd_t, bd_s, if_true, if_false, Bool.not_true, Bool.not_false, ↓reduceIte, decide_false, decide_true]))
    · by_cases e : j = k
      · subst e; rw [zr_eq]
      · rw [zr_ni e]; exact hj j (by omega)
  · rintro kk _ ⟨Y', rfl, hy, hj⟩
    have h55 : Y' 55 0 = nI nw := by rw [hy 55 (by omega)]; exact e55
    refine ⟨Y', hy, hj, ?_⟩
    unfold lX0_gives_149
    rw [if_pos (by rw [er_s18 hv, h55]; exact nI_le (Nat.le_refl _) (by omega))]
theorem jmax_n {x y : Nat} (hx : x < 2147483648) (hy : y < 2147483648) : jmax (nI x) (nI y) = nI (if x < y then y else x) := by
  unfold jmax
  by_cases h : x < y
  · rw [if_pos h, if_pos (nI_lt h hy)]
  · rw [if_neg h, if_neg (nI_nlt (by omega) hx)]
theorem jmin_n {x y : Nat} (hx : x < 2147483648) (hy : y < 2147483648) : jmin (nI x) (nI y) = nI (if y < x then y else x) := by
  unfold jmin
  by_cases h : y < x
  · rw [if_pos h, if_pos (nI_lt h hx)]
  · rw [if_neg h, if_neg (nI_nlt (by omega) hy)]
theorem it2_s {ρ σ A B : Type} {b : (σ → A → B → Option ρ) → σ → A → B → Option ρ} {n : Nat} {z : σ} {x : A} {y : B} : it2 b (n + 1) z x y = b (it2 b n) z x y := rfl
/-- a way is seen -/
theorem e_leaf {a v nw : Nat} {S : sT} {P : pT} {Y I Z : zT} {p : Nat} {rc : zT → Nat → Int32 → Option zT} (hv : v = a + 2) (hA : LA S P a) (h4 : P a 4 = some v) (hL : LV S P v) (hB : MB Z) (hw9 : nw ≤ 9) (e55 : Y 55 0 = nI nw) (h3 : ∀ x, x < 3 → Y 217 x = nI (sp Z nw p x)) (hg : ∀ j, j < nw → Y 215 j = nI (dg nw p j)) (hst : stw Z nw p Y) :
    ∃ Y', (∀ g, g ≠ 216 → g ≠ 218 → Y' g = Y g) ∧ stw Z nw (p + 1) Y' ∧ bX0_gives S P rc (enc a Y I) a (nI nw) = some (enc a Y' I) := by
  have hu := uu_le hB hw9 p
  have b0 := sp_le hB nw p 0
  have b1 := sp_le hB nw p 1
  have b2 := sp_le hB nw p 2
  have hval : jmax (Y 217 0) (jmax (Y 217 1) (Y 217 2)) - jmin (Y 217 0) (jmin (Y 217 1) (Y 217 2)) = nI (uu Z nw p) := by
    rw [h3 0 (by omega), h3 1 (by omega), h3 2 (by omega)]
    unfold uu
    generalize sp Z nw p 0 = s0 at b0 ⊢
    generalize sp Z nw p 1 = s1 at b1 ⊢
    generalize sp Z nw p 2 = s2 at b2 ⊢
    rw [jmax_n (x := s1) (by omega) (by omega), jmax_n (by omega) (by split <;> omega), jmin_n (x := s1) (by omega) (by omega), jmin_n (by omega) (by split <;> omega), ni_sub (by split <;> split <;> split <;> split <;> omega)]
    refine congrArg nI ?_
    unfold mx3 mn3
    (repeat' split) <;> omega
  have hset : ∃ Y', (∀ g, g ≠ 216 → g ≠ 218 → Y' g = Y g) ∧ Y' 218 0 = nI (uu Z nw p) ∧ (∀ j, j < nw → Y' 216 j = nI (dg nw p j)) ∧ it1 (lX0_gives_149 S P a v) FU (enc a (zset Y 218 0 (nI (uu Z nw p))) I) (nI 0) = some (enc a Y' I) := by
    obtain ⟨Y', g1, g2, g3⟩ := e_copy (Y := zset Y 218 0 (nI (uu Z nw p))) (I := I) hv hA hw9 (by rw [zr_ne (by omega)]; exact e55)
    refine ⟨Y', fun g h1 h2 => by rw [g1 g h1, zs_ne h2], by rw [g1 218 (by omega), zr_eq], fun j hj => ?_, g3⟩
    rw [g2 j hj, zs_ne (by omega)]
    exact hg j hj
  have hun : bX0_gives S P rc (enc a Y I) a (nI nw) = nj (it1 (lX0_gives_149 S P a v) FU (enc a (zset Y 218 0 (nI (uu Z nw p))) I) (nI 0)) fun j142 => if Y 218 0 = (-1 : Int32) then j142 else if nI (uu Z nw p) < Y 218 0 then j142 else some (enc a Y I) := by
    unfold bX0_gives
    rw [gd_of (LA_ka hA), h4, bd_s, gd_of (LV_kv hL), if_pos (by rw [er_s18 hv, e55]; exact nI_le (Nat.le_refl _) (by omega)), LA_p17 hA, bd_s, gd_of (LA_k17 hA), LA_n17 hA, gd_of (by decide), gd_of (by decide), gd_of (by decide), show ix (0 : Int32) = 0 from rfl, show ix (1 : Int32) = 1 from rfl, show ix (2 : Int32) = 2 from rfl, er_h3 (by omega), er_h3 (by omega), er_h3 (by omega), hval, nmE, nmE, njE, ew_o18, er_o18]
    rfl
  obtain ⟨Y', g1, g2, g3, g4⟩ := hset
  rw [hun, njE, g4]
  rcases Nat.eq_zero_or_pos p with rfl | hp
  · refine ⟨Y', g1, ⟨fun h => absurd h (by omega), fun _ => ?_⟩, if_pos (hst.1 rfl)⟩
    exact ⟨g2, g3⟩
  · obtain ⟨s1, s2⟩ := hst.2 hp
    obtain ⟨q, rfl⟩ : ∃ q, p = q + 1 := ⟨p - 1, by omega⟩
    rw [Nat.add_sub_cancel] at s1 s2
    have hu2 := uu_le hB hw9 (agm (uu Z nw) q)
    have ha : agm (uu Z nw) (q + 1) = if uu Z nw (q + 1) < uu Z nw (agm (uu Z nw) q) then q + 1 else agm (uu Z nw) q := rfl
    rw [s1, if_neg (show ¬ nI (uu Z nw (agm (uu Z nw) q)) = (-1 : Int32) from fun e => by rw [ni_m1 (by omega)] at e; exact e)]
    by_cases hc : uu Z nw (q + 1) < uu Z nw (agm (uu Z nw) q)
    · rw [if_pos hc] at ha
      refine ⟨Y', g1, ⟨fun h => absurd h (by omega), fun _ => ?_⟩, if_pos (nI_lt hc (by omega))⟩
      rw [Nat.add_sub_cancel, ha]
      exact ⟨g2, g3⟩
    · rw [if_neg hc] at ha
      refine ⟨Y, fun _ _ _ => rfl, ⟨fun h => absurd h (by omega), fun _ => ?_⟩, if_neg (nI_nlt (by omega) (by omega))⟩
      rw [Nat.add_sub_cancel, ha]
      exact ⟨s1, s2⟩
theorem e_gives {a v w n m nn nl nw : Nat} {S : sT} {P : pT} {Y I Z : zT} (hR0 : Rel a v w S P Y I n Z m nn nl nw) : ∀ e i p Y', i + e = nw → p < 3 ^ i → (∀ g, fwa g → Y' g = Y g) → (∀ x, x < 3 → Y' 217 x = nI (sp Z i p x)) → (∀ j, j < i → Y' 215 j = nI (dg i p j)) → stw Z nw (p * 3 ^ e) Y' → ∀ d, e < d →
    ∃ Y'', (∀ g, fwa g → Y'' g = Y g) ∧ (∀ x, x < 3 → Y'' 217 x = nI (sp Z i p x)) ∧ (∀ j, j < i → Y'' 215 j = nI (dg i p j)) ∧ stw Z nw ((p + 1) * 3 ^ e) Y'' ∧ it2 (bX0_gives S P) d (enc a Y' I) a (nI i) = some (enc a Y'' I) := by
  obtain ⟨⟨hv, hw, hA, h4, h5, hL, hM⟩, hn, hX, hN, hB, hC, hP, hK⟩ := id hR0
  have hw9 : nw ≤ 9 := hN.2.1.2.2.2
  have h55 : Y 55 0 = nI nw := by rw [VN_55 hN, VN_nw hN]
  intro e
  induction e with
  | zero =>
    intro i p Y' hi hp hy h3 hg hst d hd
    obtain rfl : i = nw := by omega
    obtain ⟨d, rfl⟩ : ∃ q, d = q + 1 := ⟨d - 1, by omega⟩
    have e55 : Y' 55 0 = nI i := by rw [hy 55 ⟨by omega, by omega, by omega, by omega⟩]; exact h55
    rw [Nat.pow_zero, Nat.mul_one] at hst
    obtain ⟨Y'', g1, g2, g3⟩ := e_leaf (I := I) (rc := it2 (bX0_gives S P) d) hv hA h4 hL hB hw9 e55 h3 hg hst
    refine ⟨Y'', fun g hg => (g1 g hg.2.1 hg.2.2.2).trans (hy g hg), fun x hx => by rw [g1 217 (by omega) (by omega)]; exact h3 x hx, fun j hj => by rw [g1 215 (by omega) (by omega)]; exact hg j hj, by rw [Nat.pow_zero, Nat.mul_one]; exact g2, ?_⟩
    rw [it2_s]
    exact g3
  | succ e ih =>
    intro i p Y' hi hp hy h3 hg hst d hd
    obtain ⟨d, rfl⟩ : ∃ q, d = q + 1 := ⟨d - 1, by omega⟩
    have e55 : Y' 55 0 = nI nw := by rw [hy 55 ⟨by omega, by omega, by omega, by omega⟩]; exact h55
    rw [it2_s]
    generalize hrc : it2 (bX0_gives S P) d = rc at *
    unfold bX0_gives
    rw [gd_of (LA_ka hA), h4, bd_s, gd_of (LV_kv hL), if_neg (by rw [er_s18 hv, e55]; exact nI_ge (by omega) (by omega)), njE]
    have hi9 : i < 9 := by omega
    obtain ⟨w1, w2⟩ := wa_k hB i
    have hspl : ∀ x, sp Z i p x ≤ 99 * i := fun x => sp_le hB i p x
    refine it1_up (Q := fun o => ∃ Y'', (∀ g, fwa g → Y'' g = Y g) ∧ (∀ x, x < 3 → Y'' 217 x = nI (sp Z i p x)) ∧ (∀ j, j < i → Y'' 215 j = nI (dg i p j)) ∧ stw Z nw ((p + 1) * 3 ^ (e + 1)) Y'' ∧ o = some (enc a Y'' I)) (N := 3) (fun k I' => ∃ Y'', I' = enc a Y'' I ∧ (∀ g, fwa g → Y'' g = Y g) ∧ (∀ x, x < 3 → Y'' 217 x = nI (sp Z i p x)) ∧ (∀ j, j < i → Y'' 215 j = nI (dg i p j)) ∧ stw Z nw ((3 * p + k) * 3 ^ e) Y'') ?_ ?_ (F := FU) (FU_lt (by omega)) ⟨Y', rfl, hy, h3, hg, by rw [show (3 * p + 0) * 3 ^ e = p * 3 ^ (e + 1) from by rw [Nat.pow_succ, Nat.add_zero, Nat.mul_comm (3 ^ e) 3, ← Nat.mul_assoc, Nat.mul_comm p 3]]; exact hst⟩
    · rintro kk k _ hk ⟨Y2, rfl, k1, k2, k3, k4⟩
      have hz3 : sp Z (i + 1) (3 * p + k) = fun x => (if k = x then wa Z i else 0) + sp Z i p x := by
        funext x
        show (if (3 * p + k) % 3 = x then wa Z i else 0) + sp Z i ((3 * p + k) / 3) x = _
        rw [show (3 * p + k) % 3 = k from by omega, show (3 * p + k) / 3 = p from by omega]
      have hd3 : ∀ j, dg (i + 1) (3 * p + k) j = if j = i then k else dg i p j := fun j => by
        show (if j = i then (3 * p + k) % 3 else dg i ((3 * p + k) / 3) j) = _
        rw [show (3 * p + k) % 3 = k from by omega, show (3 * p + k) / 3 = p from by omega]
      have h2k := k2 k hk
      have e56 : Y2 56 i = nI (wa Z i) := by rw [k1 56 ⟨by omega, by omega, by omega, by omega⟩, VN_56 hN (by omega)]; exact w2
      have hsk := hspl k
      obtain ⟨Y3, g1, g2, g3, g4, g5⟩ := ih (i + 1) (3 * p + k) (zset (zset Y2 215 i (nI k)) 217 k (nI (sp Z i p k + wa Z i))) (by omega) (by rw [Nat.pow_succ]; omega) (fun g hg => by rw [zs_ne hg.2.2.1, zs_ne hg.1]; exact k1 g hg) (fun x hx => by
        rw [hz3]
        by_cases c : x = k
        · subst c; rw [zr_eq]; dsimp only; rw [if_pos rfl, Nat.add_comm]
        · rw [zr_ni c, zr_ne (by omega), k2 x hx]; dsimp only; rw [if_neg (Ne.symm c), Nat.zero_add]) (fun j hj => by
        rw [zr_ne (by omega), hd3]
        by_cases c : j = i
        · subst c; rw [zr_eq, if_pos rfl]
        · rw [zr_ni c, if_neg c]; exact k3 j (by omega)) (by
        refine ⟨fun h => ?_, fun h => ?_⟩
        · rw [zr_ne (by omega), zr_ne (by omega)]; exact k4.1 h
        · rw [zr_ne (by omega), zr_ne (by omega)]
          refine ⟨(k4.2 h).1, fun j hj => ?_⟩
          rw [zr_ne (by omega), zr_ne (by omega)]; exact (k4.2 h).2 j hj) d (by omega)
      rw [hrc] at g5
      have f56 : Y3 56 i = nI (wa Z i) := by rw [g1 56 ⟨by omega, by omega, by omega, by omega⟩, VN_56 hN (by omega)]; exact w2
      have f217 : Y3 217 k = nI (sp Z i p k + wa Z i) := by
        rw [g2 k hk, hz3]; dsimp only; rw [if_pos rfl, Nat.add_comm]
      refine ⟨enc a (zset Y3 217 k (nI (sp Z i p k))) I, ?_, zset Y3 217 k (nI (sp Z i p k)), rfl, fun g hg => by rw [zs_ne hg.2.2.1]; exact g1 g hg, fun x hx => ?_, fun j hj => ?_, ?_⟩
      · have hi1 : nI i + (1 : Int32) = nI (i + 1) := nI_1 i
        have hk1 : nI k + (1 : Int32) = nI (k + 1) := nI_1 k
        unfold lX0_gives_13
        rw [if_neg (show ¬ (3 : Int32) ≤ nI k from nI_ge (b := 3) hk (by omega)), LA_p15 hA, bd_s, gd_of (LA_k15 hA), LA_n15 hA, gd_of (inb_t hi9 (by omega)), ni_ix (show i < 2147483648 by omega), ew_gi hi9, nmE, LA_p17 hA, bd_s, gd_of (LA_k17 hA), LA_n17 hA, gd_of (inb_t hk (by omega)), LV_p13 hL, bd_s, gd_of (LV_k13 hL), LV_n13 hL, gd_of (inb_t hi9 (by omega)), ni_ix (show k < 2147483648 by omega), er_h3 hk, er_wa hv hi9, zr_ne (show 217 ≠ 215 by omega), zr_ne (show 56 ≠ 215 by omega), h2k, e56, ni_add, ew_h3 hk, nmE, hi1, g5, bd_s, er_h3 hk, er_wa hv hi9, f217, f56, ni_sub (by omega), Nat.add_sub_cancel, ew_h3 hk, nmE, nmE, hk1]
      · by_cases c : x = k
        · subst c; rw [zr_eq]
        · rw [zr_ni c, g2 x hx, hz3]; dsimp only; rw [if_neg (Ne.symm c), Nat.zero_add]
      · rw [zr_ne (by omega), g3 j (by omega), hd3, if_neg (by omega)]
      · rw [show (3 * p + (k + 1)) = 3 * p + k + 1 from by omega]
        refine ⟨fun h => ?_, fun h => ?_⟩
        · rw [zr_ne (by omega)]; exact g4.1 h
        · rw [zr_ne (by omega)]
          refine ⟨(g4.2 h).1, fun j hj => ?_⟩
          rw [zr_ne (by omega)]; exact (g4.2 h).2 j hj
    · rintro kk _ ⟨Y2, rfl, k1, k2, k3, k4⟩
      refine ⟨Y2, k1, k2, k3, ?_, if_pos (by decide)⟩
      rw [show (p + 1) * 3 ^ (e + 1) = (3 * p + 3) * 3 ^ e from by rw [Nat.pow_succ, show 3 * p + 3 = (p + 1) * 3 from by omega, Nat.mul_assoc, Nat.mul_comm 3]]
      exact k4
theorem R_yw {a v w n m nn nl nw : Nat} {S : sT} {P : pT} {Y I Z : zT} {Y' : zT} (hy : ∀ g, g < 200 → Y' g = Y g) (h217 : ∀ i, i < 3 → Y' 217 i = nI 0) (h : Rel a v w S P Y I n Z m nn nl nw) : Rel a v w S P Y' I n Z m nn nl nw := by
  obtain ⟨h1, h2, h3, h4, h5, h6, h7, h8⟩ := h
  refine ⟨h1, h2, ?_, VN_y (fun g hg => hy g (by omega)) h4, h5, h6, h7, ?_⟩
  · obtain ⟨x1, x2, x3, x4, x5, x6, _⟩ := h3
    unfold XN
    rw [hy 34 (by omega), hy 41 (by omega), hy 42 (by omega), hy 61 (by omega), hy 33 (by omega)]
    exact ⟨x1, x2, x3, x4, x5, x6, h217⟩
  · rcases h8 with h8 | ⟨h8, m', nn', nl', nw', k1, k2⟩
    · exact Or.inl h8
    · exact Or.inr ⟨h8, m', nn', nl', nw', VN_y (fun g hg => hy (g + 100) (by omega)) k1, k2⟩
theorem op_watches {a v w n m nn nl nw : Nat} {S : sT} {P : pT} {Y I Z : zT} (hR0 : Rel a v w S P Y I n Z m nn nl nw) (x : Int32) : Op a v w S P I n (fX0_watches S P (enc a Y I) a x) (fX4_watches Z x) := by
  have hR := R_z (f := 0) (i := 0) (x := (0 : Int32)) rfl hR0
  unfold fX4_watches
  generalize zset Z 0 0 (0 : Int32) = Z1 at hR ⊢
  clear hR0
  obtain ⟨⟨hv, hw, hA, h4, h5, hL, hM⟩, hn, hX, hN, hB, hC, hP, hK⟩ := id hR
  have hm4 : m ≤ 4 := hN.2.1.1
  have hn20 : nn ≤ 20 := hN.2.1.2.1
  have hl99 : nl ≤ 99 := hN.2.1.2.2.1
  have hw9 : nw ≤ 9 := hN.2.1.2.2.2
  have h0 : ∀ x, x < 3 → Y 217 x = nI 0 := hX.2.2.2.2.2.2
  have hN0 : 0 < 3 ^ nw := Nat.pow_pos (by omega)
  have hN3 := p3_le hw9
  have h55 : Z1 55 0 = nI nw := VN_nw hN
  have hRa : Rel a v w S P (zset Y 218 0 (-1 : Int32)) I n Z1 m nn nl nw := R_y (by omega) (by omega) hR
  obtain ⟨Y', g1, g2, g3, g4, g5⟩ := e_gives hRa nw 0 0 (zset Y 218 0 (-1 : Int32)) (by omega) (by decide) (fun _ _ => rfl) (fun x hx => by rw [zr_ne (by omega)]; exact h0 x hx) (fun j hj => absurd hj (Nat.not_lt_zero _)) ⟨fun _ => zr_eq, fun h => absurd h (by omega)⟩ 12 (by omega)
  rw [Nat.zero_add, Nat.one_mul] at g4
  obtain ⟨q1, q2⟩ := g4.2 hN0
  have hRy : Rel a v w S P Y' I n Z1 m nn nl nw := R_yw (fun g hg => g1 g ⟨by omega, by omega, by omega, by omega⟩) g2 hRa
  have hu := agm_le (uu Z1 nw) (3 ^ nw - 1)
  have hend : ∀ x, ∃ z', (∀ g, g ≠ 57 → z' g = Z1 g) ∧ (nj (it1 (lX4_watches_32 Z1 (fun (x2_50 : Int32) =>
      nj (fun (Z97 : zT) (x3_97 : Int32) (x4_97 : Int32) =>
        if x = 0 then (
          some (x4_97, Z97))
        else (
          bd (fX4_watcher Z97 x3_97 (x - (10 : Int32))) fun (r_4 : Int32) =>
          some (r_4, Z97))) fun j97 =>
      nj (it3 (lX4_watches_60 x2_50 j97) FU) fun k60 =>
      k60 Z1 (0 : Int32) (1000000 : Int32) (0 : Int32))) FU) fun k32 => k32 (1 : Int32) (0 : Int32)) = (if x = 0 then some (nI (uu Z1 nw (agm (uu Z1 nw) (3 ^ nw - 1))), z') else bd (fX4_watcher z' (nI (agm (uu Z1 nw) (3 ^ nw - 1))) (x - (10 : Int32))) fun (r_4 : Int32) => some (r_4, z')) := by
    intro x
    obtain ⟨z', e1, e2⟩ := m_best (J := fun (Z97 : zT) (x3_97 : Int32) (x4_97 : Int32) =>
        if x = 0 then (
          some (x4_97, Z97))
        else (
          bd (fX4_watcher Z97 x3_97 (x - (10 : Int32))) fun (r_4 : Int32) =>
          some (r_4, Z97))) hB h55 hw9 (fun _ _ => rfl)
    refine ⟨z', e1, ?_⟩
    rw [njE]
    refine Eq.trans (m_ways (Z0 := Z1) h55 hw9) ?_
    rw [njE, njE]
    exact e2
  have hi0 : fX0_watches S P (enc a Y I) a (0 : Int32) = some (Y' 218 0, enc a Y' I) := by
    unfold fX0_watches
    rw [njE, if_pos rfl, gd_of (LA_ka hA), ew_o18, nmE]
    show bd (it2 (bX0_gives S P) 12 (enc a (zset Y 218 0 (-1 : Int32)) I) a (nI 0)) _ = _
    rw [g5, bd_s, if_pos rfl, er_o18]
  by_cases hz : x = nI 0
  · subst hz
    obtain ⟨z', e1, e2⟩ := hend (nI 0)
    refine ⟨nI (uu Z1 nw (agm (uu Z1 nw) (3 ^ nw - 1))), Y', z', m, nn, nl, nw, ?_, ?_, R_zz (fun g hg => e1 g (by rintro rfl; exact absurd hg (by decide))) hRy⟩
    · rw [← q1]; exact hi0
    · rw [nmE, njE, if_pos (show nI 0 = (0 : Int32) from rfl), njE]
      refine Eq.trans e2 ?_
      exact if_pos rfl
  · have hz0 : ¬ x = (0 : Int32) := hz
    have hin : ∀ x lo hi, fX4_isIn Z1 x lo hi = fX0_isIn x lo hi := fun _ _ _ => rfl
    have e9 : (9 : Int32) + nI nw = nI (9 + nw) := ni_add 9 nw
    have e55 : enc a Y I v 18 = nI nw := by rw [er_s18 hv, VN_55 hN, VN_nw hN]
    rcases rng x 10 (9 + nw) (by omega) (by omega) with ⟨j, hj1, hj2, rfl⟩ | hzz
    · obtain ⟨K, rfl⟩ : ∃ q, j = 10 + q := ⟨j - 10, by omega⟩
      have hsub : nI (10 + K) - (10 : Int32) = nI K := by rw [show (10 : Int32) = nI 10 from rfl, ni_sub (by omega), Nat.add_sub_cancel_left]
      have hzin : fX0_isIn (nI (10 + K)) (10 : Int32) (nI (9 + nw)) = some (nI 1) := rin_t (lo := 10) hj1 hj2 (by omega)
      obtain ⟨z', e1, e2⟩ := hend (nI (10 + K))
      refine ⟨nI (dg nw (agm (uu Z1 nw) (3 ^ nw - 1)) K), Y', z', m, nn, nl, nw, ?_, ?_, R_zz (fun g hg => e1 g (by rintro rfl; exact absurd hg (by decide))) hRy⟩
      · unfold fX0_watches
        rw [njE, if_neg hz0, gd_of (LA_ka hA), h4, bd_s, gd_of (LV_kv hL), e55, e9, hzin, bd_s, if_neg (by decide), gd_of (LA_ka hA), ew_o18, nmE]
        show bd (it2 (bX0_gives S P) 12 (enc a (zset Y 218 0 (-1 : Int32)) I) a (nI 0)) _ = _
        rw [g5, bd_s, if_neg hz0, LA_p16 hA, bd_s, gd_of (LA_k16 hA), LA_n16 hA, hsub, gd_of (inb_t (show K < 9 by omega) (by omega)), ni_ix (by omega), er_bg (show K < 9 by omega), q2 K (by omega)]
      · rw [nmE, njE, if_neg hz0, h55, e9, hin, hzin, bd_s, if_neg (by decide), njE]
        refine Eq.trans e2 ?_
        rw [if_neg hz0, hsub, m_watcher (by rw [e1 55 (by omega)]; exact h55) hw9 (by omega) (show K < nw by omega), bd_s]
    · have hzin : fX0_isIn x (10 : Int32) (nI (9 + nw)) = some (nI 0) := in_f hzz
      refine ⟨-1, Y, Z1, m, nn, nl, nw, ?_, ?_, hR⟩
      · unfold fX0_watches
        rw [njE, if_neg hz0, gd_of (LA_ka hA), h4, bd_s, gd_of (LV_kv hL), e55, e9, hzin, bd_s, if_pos (by decide)]
      · rw [nmE, njE, if_neg hz0, h55, e9, hin, hzin, bd_s, if_pos (by decide)]
