/-! LAYER 2: minutes: feeling, what changes at one three -/
def c3f (Z : zT) (t i : Nat) : Prop := ¬ Z 7 (3 * t + 0) = nI i ∧ ¬ Z 7 (3 * t + 1) = nI i ∧ ¬ Z 7 (3 * t + 2) = nI i
theorem feels39_s {t i : Nat} {Z : zT} {J : Int32 → Option zT} {k : Int32 → Option zT} (ht : t < 4) (hi : i < 3) : lX4_feels_39 (nI t) Z J k (nI i) = if ¬ Z 7 (3 * t + 0) = nI i ∧ ¬ Z 7 (3 * t + 1) = nI i ∧ ¬ Z 7 (3 * t + 2) = nI i then J (nI i) else k (nI i - nI 1) := by
  unfold lX4_feels_39
  have hsub : (nI i - (1 : Int32)) = nI i - nI 1 := rfl
  rw [hsub]
  generalize nI i - nI 1 = u
  rw [if_neg (nI_pos (show i < 2 ^ 31 by omega))]
  simp (maxSteps := 1000000) (disch := omega) only [fX4_thing, li_0, li_1, li_2, li_3, ni_mul, ni_add, ni_ix, inb_t, gd_t, bd_s, bdp_s, nmE, njE, if_true, if_false, Bool.not_true, Bool.not_false, nest3]
theorem feels39_m {t : Nat} {Z : zT} {J : Int32 → Option zT} {k : Int32 → Option zT} : lX4_feels_39 (nI t) Z J k (-nI 1) = J (-nI 1) := if_pos (by decide)
theorem feels85_s {t i : Nat} {Z : zT} {x3 : Int32} {J : Int32 → Option zT} {k : Int32 → Int32 → Option zT} (ht : t < 4) (hi : i < 3) : lX4_feels_85 (nI t) Z J k x3 (nI i) = if ¬ Z 7 (3 * t + 0) = nI i ∧ ¬ Z 7 (3 * t + 1) = nI i ∧ ¬ Z 7 (3 * t + 2) = nI i then k (nI i) (nI i + -nI 1) else k x3 (nI i + -nI 1) := by
  unfold lX4_feels_85
  rw [show (nI i + (-1 : Int32)) = nI i + -nI 1 from rfl]
  generalize nI i + -nI 1 = u
  rw [if_neg (nI_pos (show i < 2 ^ 31 by omega))]
  simp (maxSteps := 1000000) (disch := omega) only [fX4_thing, li_0, li_1, li_2, li_3, ni_mul, ni_add, ni_ix, inb_t, gd_t, bd_s, bdp_s, nmE, njE, if_true, if_false, Bool.not_true, Bool.not_false, nest3]
theorem feels85_m {t : Nat} {Z : zT} {x3 x4 : Int32} {J : Int32 → Option zT} {k : Int32 → Int32 → Option zT} (h : x4 < 0) : lX4_feels_85 (nI t) Z J k x3 x4 = J x3 := if_pos h
def frv (w0 w1 w2 : Int32) : Int32 := if ¬ w0 = nI 0 ∧ ¬ w1 = nI 0 ∧ ¬ w2 = nI 0 then nI 0 else if ¬ w0 = nI 1 ∧ ¬ w1 = nI 1 ∧ ¬ w2 = nI 1 then nI 1 else if ¬ w0 = nI 2 ∧ ¬ w1 = nI 2 ∧ ¬ w2 = nI 2 then nI 2 else -nI 1
theorem nI2m1 : nI 2 - nI 1 = nI 1 := by decide
theorem nI1m1 : nI 1 - nI 1 = nI 0 := by decide
theorem nI1a : nI 1 + -nI 1 = nI 0 := by decide
theorem nI0a : nI 0 + -nI 1 = -nI 1 := by decide
theorem nI0s : nI 0 - nI 1 = -nI 1 := by decide
theorem feels_in {t : Nat} {Z : zT} {J : Int32 → Option zT} (ht : t < 4) : it0 (lX4_feels_39 (nI t) Z (fun x3 => it1 (lX4_feels_85 (nI t) Z J) FU x3 (x3 - nI 1))) FU (nI 2) = J (frv (Z 7 (3 * t + 0)) (Z 7 (3 * t + 1)) (Z 7 (3 * t + 2))) := by
  unfold frv
  rw [FU_5, it0_s, feels39_s ht (by omega)]
  by_cases h2 : ¬ Z 7 (3 * t + 0) = nI 2 ∧ ¬ Z 7 (3 * t + 1) = nI 2 ∧ ¬ Z 7 (3 * t + 2) = nI 2
  · rw [if_pos h2, if_pos h2, nI2m1, it1_s, feels85_s ht (by omega), nI1a]
    by_cases h1 : ¬ Z 7 (3 * t + 0) = nI 1 ∧ ¬ Z 7 (3 * t + 1) = nI 1 ∧ ¬ Z 7 (3 * t + 2) = nI 1
    · rw [if_pos h1, if_pos h1, it1_s, feels85_s ht (by omega), nI0a]
      by_cases h0 : ¬ Z 7 (3 * t + 0) = nI 0 ∧ ¬ Z 7 (3 * t + 1) = nI 0 ∧ ¬ Z 7 (3 * t + 2) = nI 0
      · rw [if_pos h0, if_pos h0, it1_s, feels85_m (by decide)]
      · rw [if_neg h0, if_neg h0, it1_s, feels85_m (by decide)]
    · rw [if_neg h1, if_neg h1, it1_s, feels85_s ht (by omega), nI0a]
      by_cases h0 : ¬ Z 7 (3 * t + 0) = nI 0 ∧ ¬ Z 7 (3 * t + 1) = nI 0 ∧ ¬ Z 7 (3 * t + 2) = nI 0
      · rw [if_pos h0, if_pos h0, it1_s, feels85_m (by decide)]
      · rw [if_neg h0, if_neg h0, it1_s, feels85_m (by decide)]
  · rw [if_neg h2, if_neg h2, nI2m1, it0_s, feels39_s ht (by omega)]
    by_cases h1 : ¬ Z 7 (3 * t + 0) = nI 1 ∧ ¬ Z 7 (3 * t + 1) = nI 1 ∧ ¬ Z 7 (3 * t + 2) = nI 1
    · rw [if_pos h1, if_pos h1, nI1m1, it1_s, feels85_s ht (by omega), nI0a]
      by_cases h0 : ¬ Z 7 (3 * t + 0) = nI 0 ∧ ¬ Z 7 (3 * t + 1) = nI 0 ∧ ¬ Z 7 (3 * t + 2) = nI 0
      · rw [if_pos h0, if_pos h0, it1_s, feels85_m (by decide)]
      · rw [if_neg h0, if_neg h0, it1_s, feels85_m (by decide)]
    · rw [if_neg h1, if_neg h1, nI1m1, it0_s, feels39_s ht (by omega)]
      by_cases h0 : ¬ Z 7 (3 * t + 0) = nI 0 ∧ ¬ Z 7 (3 * t + 1) = nI 0 ∧ ¬ Z 7 (3 * t + 2) = nI 0
      · rw [if_pos h0, if_pos h0, nI0s, it1_s, feels85_m (by decide)]
      · rw [if_neg h0, if_neg h0, nI0s, it0_s, feels39_m, it1_s, feels85_m (by decide)]
theorem frv_e {α : Type} (w0 w1 w2 : Int32) (g : Int32 → α) : (if nI 0 ≤ frv w0 w1 w2 then g (frv w0 w1 w2) else g (nI 0)) = g (nI (fr w0 w1 w2)) := by
  unfold frv fr
  by_cases h0 : ¬ w0 = nI 0 ∧ ¬ w1 = nI 0 ∧ ¬ w2 = nI 0
  · rw [if_pos h0, if_pos h0]; exact if_pos (by decide)
  · rw [if_neg h0, if_neg h0]
    by_cases h1 : ¬ w0 = nI 1 ∧ ¬ w1 = nI 1 ∧ ¬ w2 = nI 1
    · rw [if_pos h1, if_pos h1]; exact if_pos (by decide)
    · rw [if_neg h1, if_neg h1]
      by_cases h2 : ¬ w0 = nI 2 ∧ ¬ w1 = nI 2 ∧ ¬ w2 = nI 2
      · rw [if_pos h2, if_pos h2]; exact if_pos (by decide)
      · rw [if_neg h2, if_neg h2]; exact if_neg (by decide)
theorem m_feels {t x y : Nat} {Z : zT} (ht : t < 4) (hx : x < 3) (hy : y ≤ 8) (e30 : Z 30 t = nI x) (e31 : Z 31 t = nI y) : fX4_feels Z (nI t) = some (if Z 7 (3 * t + x) = nI (10 + y) then zset (zset Z 28 t (nI 0)) 7 (3 * t + x) (nI (fr (Z 7 (3 * t + 0)) (Z 7 (3 * t + 1)) (Z 7 (3 * t + 2)))) else zset Z 28 t (nI 0)) := by
  unfold fX4_feels
  by_cases h : Z 7 (3 * t + x) = nI (10 + y)
  · rw [if_pos h]
    simp (maxSteps := 1000000) (disch := omega) only [e30, e31, h, li_0, li_1, li_2, li_3, li_10, ni_mul, ni_add, ni_ix, inb_t, gd_t, bd_s, bdp_s, nmE, njE, if_true, if_false, Bool.not_true, Bool.not_false, zr_ne, zr_eq, feels_in ht, frv_e _ _ _ (fun q => some (zset (zset Z 28 t (nI 0)) 7 (3 * t + x) q))]
  · rw [if_neg h]
    simp (maxSteps := 1000000) (disch := omega) only [e30, e31, eq_false h, li_0, li_1, li_2, li_3, li_10, ni_mul, ni_add, ni_ix, inb_t, gd_t, bd_s, bdp_s, nmE, njE, if_true, if_false, Bool.not_true, Bool.not_false, zr_ne, zr_eq]
/-- what changes at one three -/
def chg (t f i : Nat) : Prop := (f = 1 ∧ i = 0) ∨ ((f = 5 ∨ f = 6 ∨ f = 28 ∨ f = 29 ∨ f = 30 ∨ f = 31) ∧ i = t) ∨ (f = 7 ∧ 3 * t ≤ i ∧ i < 3 * t + 3)
theorem R_three {a v w n m nn nl nw : Nat} {S : sT} {P : pT} {Y I Z : zT} {Y' Z' : zT} {t : Nat} (ht : t < m) (hR : Rel a v w S P Y I n Z m nn nl nw) (hY : ∀ f i, ¬ chg t f i → Y' f i = Y f i) (hZ : ∀ f i, ¬ chg t f i → Z' f i = Z f i)
    (h1 : Y' 1 0 = Z' 1 0) (h5 : Y' 5 t = Z' 5 t) (h6 : Y' 6 t = Z' 6 t) (h29 : Y' 29 t = Z' 29 t) (h7 : ∀ k, k < 3 → Y' 7 (3 * t + k) = Z' 7 (3 * t + k))
    (b7 : ∀ k, k < 3 → ∃ q, q ≤ 18 ∧ Z' 7 (3 * t + k) = nI q) (b28 : ∃ q, q ≤ 3 ∧ Z' 28 t = nI q) (b29 : ∃ q, q ≤ 99 ∧ Z' 29 t = nI q) (b30 : ∃ q, q ≤ 99 ∧ Z' 30 t = nI q) (b31 : ∃ q, q ≤ 11 ∧ Z' 31 t = nI q)
    (hd : (Z' 28 t = nI 1 → Y' 28 t = nI 0 ∧ Y' 30 t = Z' 30 t ∧ Y' 31 t = Z' 31 t) ∧ (Z' 28 t = nI 2 → Y' 28 t = nI 4) ∧ (Z' 28 t = nI 3 → Y' 28 t = nI 5 ∧ Y' 30 t = Z' 30 t ∧ Y' 31 t = Z' 31 t))
    (c1 : Z' 28 t = nI 0 ↔ Z' 29 t = nI 0) (c2 : Z' 28 t = nI 1 → ∃ x y, x ≤ 2 ∧ y ≤ 2 ∧ Z' 30 t = nI x ∧ Z' 31 t = nI y ∧ Z' 7 (3 * t + x) = nI 3)
    (c3 : Z' 28 t = nI 3 → ∃ x y, x ≤ 2 ∧ y ≤ 8 ∧ Z' 30 t = nI x ∧ Z' 31 t = nI y) (c4 : ∀ k, k < 3 → Z' 7 (3 * t + k) = nI 3 → Z' 28 t = nI 1 ∧ Z' 30 t = nI k) :
    Rel a v w S P Y' I n Z' m nn nl nw := by
  obtain ⟨⟨hv, hw, hA, h4, h5, hL, hM⟩, hn, hX, hN, hB, hC, hP, hK⟩ := id hR
  have hm4 : m ≤ 4 := hN.2.1.1
  have hn20 : nn ≤ 20 := hN.2.1.2.1
  have hl99 : nl ≤ 99 := hN.2.1.2.2.1
  have hw9 : nw ≤ 9 := hN.2.1.2.2.2
  have hYf : ∀ f, f ≠ 1 → f ≠ 5 → f ≠ 6 → f ≠ 7 → f ≠ 28 → f ≠ 29 → f ≠ 30 → f ≠ 31 → Y' f = Y f := fun f _ _ _ _ _ _ _ _ => funext fun i => hY f i (by unfold chg; omega)
  have hZf : ∀ f, f ≠ 1 → f ≠ 5 → f ≠ 6 → f ≠ 7 → f ≠ 28 → f ≠ 29 → f ≠ 30 → f ≠ 31 → Z' f = Z f := fun f _ _ _ _ _ _ _ _ => funext fun i => hZ f i (by unfold chg; omega)
  refine R_v (fun f hf => hYf f (by omega) (by omega) (by omega) (by omega) (by omega) (by omega) (by omega) (by omega)) ⟨hYf _ (by omega) (by omega) (by omega) (by omega) (by omega) (by omega) (by omega) (by omega), hYf _ (by omega) (by omega) (by omega) (by omega) (by omega) (by omega) (by omega) (by omega), hYf _ (by omega) (by omega) (by omega) (by omega) (by omega) (by omega) (by omega) (by omega), hYf _ (by omega) (by omega) (by omega) (by omega) (by omega) (by omega) (by omega) (by omega), hYf _ (by omega) (by omega) (by omega) (by omega) (by omega) (by omega) (by omega) (by omega)⟩ ⟨hZf _ (by omega) (by omega) (by omega) (by omega) (by omega) (by omega) (by omega) (by omega), hZf _ (by omega) (by omega) (by omega) (by omega) (by omega) (by omega) (by omega) (by omega), hZf _ (by omega) (by omega) (by omega) (by omega) (by omega) (by omega) (by omega) (by omega), hZf _ (by omega) (by omega) (by omega) (by omega) (by omega) (by omega) (by omega) (by omega), hZf _ (by omega) (by omega) (by omega) (by omega) (by omega) (by omega) (by omega) (by omega), hZf _ (by omega) (by omega) (by omega) (by omega) (by omega) (by omega) (by omega) (by omega), hZf _ (by omega) (by omega) (by omega) (by omega) (by omega) (by omega) (by omega) (by omega)⟩ ?_ ?_ ?_ ?_ hR
  · unfold VN
    rw [hYf 10 (by omega) (by omega) (by omega) (by omega) (by omega) (by omega) (by omega) (by omega), hYf 65 (by omega) (by omega) (by omega) (by omega) (by omega) (by omega) (by omega) (by omega), hYf 53 (by omega) (by omega) (by omega) (by omega) (by omega) (by omega) (by omega) (by omega), hZf 2 (by omega) (by omega) (by omega) (by omega) (by omega) (by omega) (by omega) (by omega), hZf 18 (by omega) (by omega) (by omega) (by omega) (by omega) (by omega) (by omega) (by omega), hZf 22 (by omega) (by omega) (by omega) (by omega) (by omega) (by omega) (by omega) (by omega), hZf 55 (by omega) (by omega) (by omega) (by omega) (by omega) (by omega) (by omega) (by omega), hZf 53 (by omega) (by omega) (by omega) (by omega) (by omega) (by omega) (by omega) (by omega)]
    refine ⟨hN.1, hN.2.1, fun f i hi => ?_, hN.2.2.2.1, hN.2.2.2.2.1, hN.2.2.2.2.2.1, fun u hu => ?_⟩
    · by_cases hc : chg t f i
      · rcases hc with ⟨rfl, rfl⟩ | ⟨hf, rfl⟩ | ⟨rfl, h3, h4⟩
        · exact h1
        · rcases hf with rfl | rfl | rfl | rfl | rfl | rfl
          · exact h5
          · exact h6
          · exact absurd hi (Nat.not_lt_zero _)
          · exact h29
          · exact absurd hi (Nat.not_lt_zero _)
          · exact absurd hi (Nat.not_lt_zero _)
        · obtain ⟨k, rfl⟩ : ∃ k, i = 3 * t + k := ⟨i - 3 * t, by omega⟩
          exact h7 k (by omega)
      · rw [hY f i hc, hZ f i hc]
        exact hN.2.2.1 f i hi
    · by_cases e : u = t
      · subst e; exact hd
      · rw [hZ 28 u (by unfold chg; omega), hZ 30 u (by unfold chg; omega), hZ 31 u (by unfold chg; omega), hY 28 u (by unfold chg; omega), hY 30 u (by unfold chg; omega), hY 31 u (by unfold chg; omega)]
        exact hN.2.2.2.2.2.2 u hu
  · intro f i hf
    by_cases hc : chg t f i
    · rcases hc with ⟨rfl, rfl⟩ | ⟨hf2, rfl⟩ | ⟨rfl, h3, h4⟩
      · exact absurd rfl hf
      · rcases hf2 with rfl | rfl | rfl | rfl | rfl | rfl
        · exact absurd rfl hf
        · exact absurd rfl hf
        · exact b28
        · exact b29
        · exact b30
        · exact b31
      · obtain ⟨k, rfl⟩ : ∃ k, i = 3 * t + k := ⟨i - 3 * t, by omega⟩
        exact b7 k (by omega)
    · rw [hZ f i hc]
      exact hB f i hf
  · obtain ⟨k1, k2, k3, k4, k5, k6, k7, k8⟩ := hC
    have g28 : ∀ u, u ≠ t → Z' 28 u = Z 28 u := fun u hu => hZ 28 u (by unfold chg; omega)
    have g29 : ∀ u, u ≠ t → Z' 29 u = Z 29 u := fun u hu => hZ 29 u (by unfold chg; omega)
    have g30 : ∀ u, u ≠ t → Z' 30 u = Z 30 u := fun u hu => hZ 30 u (by unfold chg; omega)
    have g31 : ∀ u, u ≠ t → Z' 31 u = Z 31 u := fun u hu => hZ 31 u (by unfold chg; omega)
    have g7 : ∀ u k, u ≠ t → k < 3 → Z' 7 (3 * u + k) = Z 7 (3 * u + k) := fun u k hu hk => hZ 7 _ (by unfold chg; omega)
    refine ⟨fun u hu => ?_, fun u hu => ?_, fun u hu => ?_, fun u k hu hk => ?_, fun u hu1 hu2 => ?_, fun u hu => ?_, ?_, ?_⟩
    · by_cases e : u = t
      · subst e; exact c1
      · rw [g28 u e, g29 u e]; exact k1 u hu
    · by_cases e : u = t
      · subst e; exact c2
      · rw [g28 u e, g30 u e, g31 u e]
        intro h
        obtain ⟨x, y, q1, q2, q3, q4, q5⟩ := k2 u hu h
        exact ⟨x, y, q1, q2, q3, q4, by rw [g7 u x e (by omega)]; exact q5⟩
    · by_cases e : u = t
      · subst e; exact c3
      · rw [g28 u e, g30 u e, g31 u e]; exact k3 u hu
    · by_cases e : u = t
      · subst e; exact c4 k hk
      · rw [g28 u e, g30 u e, g7 u k e hk]; exact k4 u k hu hk
    · have e : u ≠ t := by omega
      obtain ⟨q1, q2, q3, q4, q5, q6, q7, q8⟩ := k5 u hu1 hu2
      rw [hZ 5 u (by unfold chg; omega), hZ 6 u (by unfold chg; omega), hZ 21 u (by unfold chg; omega), g28 u e, g29 u e, hZ 44 u (by unfold chg; omega), hZ 45 u (by unfold chg; omega)]
      exact ⟨q1, q2, q3, q4, q5, q6, q7, fun k hk => by rw [g7 u k e hk]; exact q8 k hk⟩
    · rw [hZ 3 u (by unfold chg; omega)]; exact k6 u hu
    · rw [hZf 23 (by omega) (by omega) (by omega) (by omega) (by omega) (by omega) (by omega) (by omega)]; exact k7
    · rw [hZf 44 (by omega) (by omega) (by omega) (by omega) (by omega) (by omega) (by omega) (by omega), hZf 45 (by omega) (by omega) (by omega) (by omega) (by omega) (by omega) (by omega) (by omega)]; exact k8
  · unfold PLr at hP ⊢
    rw [hZf 44 (by omega) (by omega) (by omega) (by omega) (by omega) (by omega) (by omega) (by omega), hZf 43 (by omega) (by omega) (by omega) (by omega) (by omega) (by omega) (by omega) (by omega)]
    exact hP
