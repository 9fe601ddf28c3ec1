/-! LAYER 2: what keeps the relation; the checks of arguments -/
theorem rng (x : Int32) (lo hi : Nat) (hh : hi < 2147483648) (hl : lo < 2147483648) : (∃ j, lo ≤ j ∧ j ≤ hi ∧ x = nI j) ∨ (x < nI lo ∨ (¬ x < nI lo ∧ nI hi < x)) := by
  by_cases h1 : x < nI lo
  · exact Or.inr (Or.inl h1)
  · by_cases h2 : nI hi < x
    · exact Or.inr (Or.inr ⟨h1, h2⟩)
    · left
      have h0 : ¬ x < 0 := by
        rw [Int32.lt_iff_toInt_lt, nI_toInt hl] at h1
        rw [Int32.lt_iff_toInt_lt, show (0 : Int32).toInt = 0 from rfl]
        omega
      obtain ⟨j, hj, rfl⟩ := nn_of h0
      rw [ni_lt hj hl] at h1
      rw [ni_lt hh hj] at h2
      exact ⟨j, by omega, by omega, rfl⟩
theorem in_t {x lo hi : Int32} (h1 : ¬ x < lo) (h2 : ¬ hi < x) : fX0_isIn x lo hi = some (nI 1) := by
  unfold fX0_isIn; rw [njE, if_neg h1, if_neg h2]; rfl
theorem in_f {x lo hi : Int32} (h : x < lo ∨ (¬ x < lo ∧ hi < x)) : fX0_isIn x lo hi = some (nI 0) := by
  unfold fX0_isIn
  rw [njE]
  rcases h with h | h
  · rw [if_pos h]; rfl
  · rw [if_neg h.1, if_pos h.2]; rfl
theorem rin_t {j lo hi : Nat} (h1 : lo ≤ j) (h2 : j ≤ hi) (hh : hi < 2147483648) : fX0_isIn (nI j) (nI lo) (nI hi) = some (nI 1) := in_t (nI_nlt h1 (by omega)) (nI_nlt h2 hh)
theorem in4_t {Z : zT} {x lo hi : Int32} (h1 : ¬ x < lo) (h2 : ¬ hi < x) : fX4_isIn Z x lo hi = some (nI 1) := by
  unfold fX4_isIn; rw [njE, if_neg h1, if_neg h2]; rfl
theorem in4_f {Z : zT} {x lo hi : Int32} (h : x < lo ∨ (¬ x < lo ∧ hi < x)) : fX4_isIn Z x lo hi = some (nI 0) := by
  unfold fX4_isIn
  rw [njE]
  rcases h with h | h
  · rw [if_pos h]; rfl
  · rw [if_neg h.1, if_pos h.2]; rfl
theorem rin4_t {Z : zT} {j lo hi : Nat} (h1 : lo ≤ j) (h2 : j ≤ hi) (hh : hi < 2147483648) : fX4_isIn Z (nI j) (nI lo) (nI hi) = some (nI 1) := in4_t (nI_nlt h1 (by omega)) (nI_nlt h2 hh)
theorem isb_n1 : isb (nI 1) = true := rfl
theorem isb_n0 : isb (nI 0) = true := rfl
/-- 0 .. m - 1 -/
theorem inm_t {t m : Nat} (h : t < m) (hm : m < 2147483648) : fX0_isIn (nI t) (nI 0) (nI m - nI 1) = some (nI 1) := by
  refine in_t (nI_nlt (by omega) (by omega)) ?_
  rw [lt_m1 hm]
  exact nI_ge h hm
theorem inm_f {x : Int32} {m : Nat} (h : inb x m = false) (hm : m < 2147483648) : fX0_isIn x (nI 0) (nI m - nI 1) = some (nI 0) := by
  refine in_f ?_
  rw [lt_m1 hm]
  exact not_inb h hm
theorem in0_f {x : Int32} {m : Nat} (h : inb x (m + 1) = false) (hm : m < 2147483647) : fX0_isIn x (nI 0) (nI m) = some (nI 0) := by
  have := inm_f h (by omega)
  rwa [show nI (m + 1) - nI 1 = nI m from by rw [ni_sub (by omega), Nat.add_sub_cancel]] at this
theorem in40_f {Z : zT} {x : Int32} {m : Nat} (h : inb x (m + 1) = false) (hm : m < 2147483647) : fX4_isIn Z x (nI 0) (nI m) = some (nI 0) := by
  refine in4_f ?_
  have := not_inb h (by omega)
  rcases this with k | ⟨k1, k2⟩
  · exact Or.inl k
  · refine Or.inr ⟨k1, ?_⟩
    obtain ⟨j, hj, rfl⟩ := nn_of k1
    rw [ni_le (by omega) hj] at k2
    exact nI_lt (by omega) hj
theorem c_fact_t {f : Nat} (h : f < 10) : fX0_isFact (nI f) = some (nI 1) := by
  unfold fX0_isFact
  rw [show fX0_isIn (nI f) (0 : Int32) (9 : Int32) = some (nI 1) from rin_t (lo := 0) (hi := 9) (by omega) (by omega) (by omega)]
  rfl
theorem c_fact_f {x : Int32} (h : inb x 10 = false) : fX0_isFact x = some (nI 0) := by
  unfold fX0_isFact
  rw [show fX0_isIn x (0 : Int32) (9 : Int32) = some (nI 0) from in0_f (m := 9) h (by omega)]
  rfl
theorem c_thing_t {f : Nat} (h : f < 3) : fX0_isThing (nI f) = some (nI 1) := by
  unfold fX0_isThing
  rw [show fX0_isIn (nI f) (0 : Int32) (2 : Int32) = some (nI 1) from rin_t (lo := 0) (hi := 2) (by omega) (by omega) (by omega)]
  rfl
theorem c_thing_f {x : Int32} (h : inb x 3 = false) : fX0_isThing x = some (nI 0) := by
  unfold fX0_isThing
  rw [show fX0_isIn x (0 : Int32) (2 : Int32) = some (nI 0) from in0_f (m := 2) h (by omega)]
  rfl
theorem c_three_t {a v w n m nn nl nw : Nat} {S : sT} {P : pT} {Y I Z : zT} (hR : Rel a v w S P Y I n Z m nn nl nw) {t : Nat} (ht : t < m) : fX0_isThree S P (enc a Y I) a (nI t) = some (nI 1) := by
  obtain ⟨⟨hv, hw, hA, h4, h5, hL, hM⟩, hn, hX, hN, hB, hC, hP, hK⟩ := id hR
  have hm4 : m ≤ 4 := hN.2.1.1
  have hn20 : nn ≤ 20 := hN.2.1.2.1
  have hl99 : nl ≤ 99 := hN.2.1.2.2.1
  have hw9 : nw ≤ 9 := hN.2.1.2.2.2
  unfold fX0_isThree
  simp only [LA_ka hA, h4, LV_kv hL, er_s15 hv, VN_2 hN, VN_m hN, gd_t, bd_s, li_0, li_1, inm_t ht (show m < 2147483648 by omega), isb_n1]
theorem c_three_f {a v w n m nn nl nw : Nat} {S : sT} {P : pT} {Y I Z : zT} (hR : Rel a v w S P Y I n Z m nn nl nw) {x : Int32} (h : inb x m = false) : fX0_isThree S P (enc a Y I) a x = some (nI 0) := by
  obtain ⟨⟨hv, hw, hA, h4, h5, hL, hM⟩, hn, hX, hN, hB, hC, hP, hK⟩ := id hR
  have hm4 : m ≤ 4 := hN.2.1.1
  have hn20 : nn ≤ 20 := hN.2.1.2.1
  have hl99 : nl ≤ 99 := hN.2.1.2.2.1
  have hw9 : nw ≤ 9 := hN.2.1.2.2.2
  unfold fX0_isThree
  simp only [LA_ka hA, h4, LV_kv hL, er_s15 hv, VN_2 hN, VN_m hN, gd_t, bd_s, li_0, li_1, inm_f h (show m < 2147483648 by omega), isb_n0]
theorem c_one_t {a v w n m nn nl nw : Nat} {S : sT} {P : pT} {Y I Z : zT} (hR : Rel a v w S P Y I n Z m nn nl nw) {p : Nat} (hp : p < 3 * m) : fX0_isOne S P (enc a Y I) a (nI p) = some (nI 1) := by
  obtain ⟨⟨hv, hw, hA, h4, h5, hL, hM⟩, hn, hX, hN, hB, hC, hP, hK⟩ := id hR
  have hm4 : m ≤ 4 := hN.2.1.1
  have hn20 : nn ≤ 20 := hN.2.1.2.1
  have hl99 : nl ≤ 99 := hN.2.1.2.2.1
  have hw9 : nw ≤ 9 := hN.2.1.2.2.2
  unfold fX0_isOne
  simp only [LA_ka hA, h4, LV_kv hL, er_s15 hv, VN_2 hN, VN_m hN, gd_t, bd_s, li_0, li_1, li_3, ni_mul, inm_t hp (show 3 * m < 2147483648 by omega), isb_n1]
theorem c_one_f {a v w n m nn nl nw : Nat} {S : sT} {P : pT} {Y I Z : zT} (hR : Rel a v w S P Y I n Z m nn nl nw) {x : Int32} (h : inb x (3 * m) = false) : fX0_isOne S P (enc a Y I) a x = some (nI 0) := by
  obtain ⟨⟨hv, hw, hA, h4, h5, hL, hM⟩, hn, hX, hN, hB, hC, hP, hK⟩ := id hR
  have hm4 : m ≤ 4 := hN.2.1.1
  have hn20 : nn ≤ 20 := hN.2.1.2.1
  have hl99 : nl ≤ 99 := hN.2.1.2.2.1
  have hw9 : nw ≤ 9 := hN.2.1.2.2.2
  unfold fX0_isOne
  simp only [LA_ka hA, h4, LV_kv hL, er_s15 hv, VN_2 hN, VN_m hN, gd_t, bd_s, li_0, li_1, li_3, ni_mul, inm_f h (show 3 * m < 2147483648 by omega), isb_n0]
theorem b4_t {x : Int32} {n : Nat} {j : Nat} (h : j < n) (hn : n < 2147483648) : (if (nI j : Int32) < 0 then (some (0 : Int32)) else if nI n ≤ nI j then some (0 : Int32) else some (1 : Int32)) = some (nI 1) := by
  rw [if_neg (nI_pos (by omega)), if_neg (nI_ge h hn)]; rfl
theorem c4_three_t {Z : zT} {m t : Nat} (hz : Z 2 0 = nI m) (h : t < m) (hm : m < 2147483648) : fX4_isThree Z (nI t) = some (nI 1) := by
  unfold fX4_isThree
  rw [njE, hz, if_neg (nI_pos (by omega)), if_neg (nI_ge h hm)]; rfl
theorem c4_three_f {Z : zT} {m : Nat} {x : Int32} (hz : Z 2 0 = nI m) (h : inb x m = false) (hm : m < 2147483648) : fX4_isThree Z x = some (nI 0) := by
  unfold fX4_isThree
  rw [njE, hz]
  rcases not_inb h hm with k | ⟨k1, k2⟩
  · rw [if_pos k]; rfl
  · rw [if_neg k1, if_pos k2]; rfl
theorem c4_person_t {Z : zT} {m t : Nat} (hz : Z 2 0 = nI m) (h : t < 3 * m) (hm : 3 * m < 2147483648) : fX4_isPerson Z (nI t) = some (nI 1) := by
  unfold fX4_isPerson
  rw [njE, hz, show (3 : Int32) * nI m = nI (3 * m) from ni_mul 3 m, if_neg (nI_pos (by omega)), if_neg (nI_ge h hm)]; rfl
theorem c4_person_f {Z : zT} {m : Nat} {x : Int32} (hz : Z 2 0 = nI m) (h : inb x (3 * m) = false) (hm : 3 * m < 2147483648) : fX4_isPerson Z x = some (nI 0) := by
  unfold fX4_isPerson
  rw [njE, hz, show (3 : Int32) * nI m = nI (3 * m) from ni_mul 3 m]
  rcases not_inb h hm with k | ⟨k1, k2⟩
  · rw [if_pos k]; rfl
  · rw [if_neg k1, if_pos k2]; rfl
theorem c4_fact_t {Z : zT} {t : Nat} (h : t < 10) : fX4_isFact Z (nI t) = some (nI 1) := by
  unfold fX4_isFact
  rw [njE, if_neg (nI_pos (by omega)), if_neg (show ¬ (10 : Int32) ≤ nI t from nI_ge (b := 10) h (by omega))]; rfl
theorem c4_fact_f {Z : zT} {x : Int32} (h : inb x 10 = false) : fX4_isFact Z x = some (nI 0) := by
  unfold fX4_isFact
  rw [njE]
  rcases not_inb h (by omega) with k | ⟨k1, k2⟩
  · rw [if_pos k]; rfl
  · rw [if_neg k1, if_pos (show (10 : Int32) ≤ x from k2)]; rfl
theorem c4_thing_t {Z : zT} {t : Nat} (h : t < 3) : fX4_isThing Z (nI t) = some (nI 1) := by
  unfold fX4_isThing
  rw [njE, if_neg (nI_pos (by omega)), if_neg (show ¬ (3 : Int32) ≤ nI t from nI_ge (b := 3) h (by omega))]; rfl
theorem c4_thing_f {Z : zT} {x : Int32} (h : inb x 3 = false) : fX4_isThing Z x = some (nI 0) := by
  unfold fX4_isThing
  rw [njE]
  rcases not_inb h (by omega) with k | ⟨k1, k2⟩
  · rw [if_pos k]; rfl
  · rw [if_neg k1, if_pos (show (3 : Int32) ≤ x from k2)]; rfl
/-- a place written on both sides that the relation keeps for OneEye itself -/
theorem VN_o {m nn nl nw : Nat} {Y Y' Z Z' : zT} (hy : ∀ f, f < 66 → f ≠ 33 → f ≠ 34 → f ≠ 41 → f ≠ 42 → f ≠ 61 → Y' f = Y f) (hz : ∀ f, f < 66 → f ≠ 33 → f ≠ 34 → f ≠ 41 → f ≠ 42 → f ≠ 61 → Z' f = Z f) (h : VN m nn nl nw Y Z) : VN m nn nl nw Y' Z' := by
  unfold VN at h ⊢
  rw [hy 10 (by omega) (by omega) (by omega) (by omega) (by omega) (by omega), hy 65 (by omega) (by omega) (by omega) (by omega) (by omega) (by omega), hy 53 (by omega) (by omega) (by omega) (by omega) (by omega) (by omega), hy 28 (by omega) (by omega) (by omega) (by omega) (by omega) (by omega), hy 30 (by omega) (by omega) (by omega) (by omega) (by omega) (by omega), hy 31 (by omega) (by omega) (by omega) (by omega) (by omega) (by omega)]
  rw [hz 2 (by omega) (by omega) (by omega) (by omega) (by omega) (by omega), hz 18 (by omega) (by omega) (by omega) (by omega) (by omega) (by omega), hz 22 (by omega) (by omega) (by omega) (by omega) (by omega) (by omega), hz 55 (by omega) (by omega) (by omega) (by omega) (by omega) (by omega), hz 53 (by omega) (by omega) (by omega) (by omega) (by omega) (by omega), hz 28 (by omega) (by omega) (by omega) (by omega) (by omega) (by omega), hz 30 (by omega) (by omega) (by omega) (by omega) (by omega) (by omega), hz 31 (by omega) (by omega) (by omega) (by omega) (by omega) (by omega)]
  refine ⟨h.1, h.2.1, fun g j hj => ?_, h.2.2.2⟩
  have hg : g < 66 := by
    refine Classical.byContradiction fun c => ?_
    rw [lim_big (by omega)] at hj
    exact absurd hj (Nat.not_lt_zero _)
  have hg2 : g ≠ 33 ∧ g ≠ 34 ∧ g ≠ 41 ∧ g ≠ 42 ∧ g ≠ 61 := by
    refine ⟨?_, ?_, ?_, ?_, ?_⟩ <;> (rintro rfl; exact absurd hj (Nat.not_lt_zero _))
  rw [hy g hg hg2.1 hg2.2.1 hg2.2.2.1 hg2.2.2.2.1 hg2.2.2.2.2, hz g hg hg2.1 hg2.2.1 hg2.2.2.1 hg2.2.2.2.1 hg2.2.2.2.2]
  exact h.2.2.1 g j hj
def ff (f : Nat) : Bool := (f == 34) || (f == 41) || (f == 42)
theorem ff_eq {f : Nat} (h : ff f = true) : f = 34 ∨ f = 41 ∨ f = 42 := by
  simp only [ff, Bool.or_eq_true, beq_iff_eq] at h
  omega
/-- taped, faultKind, faultPlace -/
theorem R_f {a v w n m nn nl nw : Nat} {S : sT} {P : pT} {Y I Z : zT} {f : Nat} {x : Int32} (hf : ff f = true) (hx : f = 34 → ∃ k, k ≤ 400 ∧ x = nI k) (hR : Rel a v w S P Y I n Z m nn nl nw) : Rel a v w S P (zset Y f 0 x) I n (zset Z f 0 x) m nn nl nw := by
  obtain ⟨⟨hv, hw, hA, h4, h5, hL, hM⟩, hn, hX, hN, hB, hC, hP, hK⟩ := id hR
  have hm4 : m ≤ 4 := hN.2.1.1
  have hn20 : nn ≤ 20 := hN.2.1.2.1
  have hl99 : nl ≤ 99 := hN.2.1.2.2.1
  have hw9 : nw ≤ 9 := hN.2.1.2.2.2
  have e := ff_eq hf
  have hy : ∀ g, g ≠ f → zset Y f 0 x g = Y g := fun g hg => zs_ne hg
  have hz : ∀ g, g ≠ f → zset Z f 0 x g = Z g := fun g hg => zs_ne hg
  refine ⟨⟨hv, hw, hA, h4, h5, hL, hM⟩, hn, ?_, VN_o (fun g _ _ h1 h2 h3 _ => hy g (by omega)) (fun g _ _ h1 h2 h3 _ => hz g (by omega)) hN, MB_set hB ?_, ?_, ?_, ?_⟩
  · obtain ⟨x1, x2, x3, x4, x5, x6⟩ := hX
    refine ⟨zs_par x1, zs_par x2, zs_par x3, zs_par x4, ?_, ?_⟩
    · rw [hy 33 (by omega), hz 33 (by omega)]; exact x5
    · rw [hz 32 (by omega), hy 217 (by omega)]; exact x6
  · rcases e with rfl | rfl | rfl
    · exact Or.inr (hx rfl)
    · exact Or.inl rfl
    · exact Or.inl rfl
  · unfold MC at hC ⊢
    rw [hz 28 (by omega), hz 29 (by omega), hz 30 (by omega), hz 31 (by omega), hz 7 (by omega), hz 5 (by omega), hz 6 (by omega), hz 21 (by omega), hz 44 (by omega), hz 45 (by omega), hz 3 (by omega), hz 23 (by omega)]
    exact hC
  · unfold PLr at hP ⊢
    rw [hz 44 (by omega), hz 43 (by omega)]
    exact hP
  · unfold KR at hK ⊢
    rw [unimg_z (hz 63 (by omega)), hz 61 (by omega)]
    rcases hK with k | ⟨k, m', nn', nl', nw', k1, k2⟩
    · exact Or.inl k
    · exact Or.inr ⟨k, m', nn', nl', nw', VN_y (fun g _ => hy (g + 100) (by omega)) k1, k2⟩
/-- a byte of the tape -/
theorem R_tape {a v w n m nn nl nw : Nat} {S : sT} {P : pT} {Y I Z : zT} {i : Nat} {x y : Int32} (hi : i < 400) (hxy : x &&& 255 = y) (hb : isby x = true) (hR : Rel a v w S P Y I n Z m nn nl nw) : Rel a v w S P (zset Y 33 i x) I n (zset Z 33 i y) m nn nl nw := by
  obtain ⟨⟨hv, hw, hA, h4, h5, hL, hM⟩, hn, hX, hN, hB, hC, hP, hK⟩ := id hR
  have hm4 : m ≤ 4 := hN.2.1.1
  have hn20 : nn ≤ 20 := hN.2.1.2.1
  have hl99 : nl ≤ 99 := hN.2.1.2.2.1
  have hw9 : nw ≤ 9 := hN.2.1.2.2.2
  have hy : ∀ g, g ≠ 33 → zset Y 33 i x g = Y g := fun g hg => zs_ne hg
  have hz : ∀ g, g ≠ 33 → zset Z 33 i y g = Z g := fun g hg => zs_ne hg
  refine ⟨⟨hv, hw, hA, h4, h5, hL, hM⟩, hn, ?_, VN_o (fun g _ h0 h1 h2 h3 _ => hy g (by omega)) (fun g _ h0 h1 h2 h3 _ => hz g (by omega)) hN, MB_set hB (Or.inl rfl), ?_, ?_, ?_⟩
  · obtain ⟨x1, x2, x3, x4, x5, x6⟩ := hX
    rw [XN, hy 34 (by omega), hy 41 (by omega), hy 42 (by omega), hy 61 (by omega), hz 34 (by omega), hz 41 (by omega), hz 42 (by omega), hz 61 (by omega), hz 32 (by omega), hy 217 (by omega)]
    refine ⟨x1, x2, x3, x4, fun j hj => ?_, x6⟩
    by_cases e : j = i
    · subst e; rw [zr_eq, zr_eq]; exact ⟨hxy, hb⟩
    · rw [zr_ni e, zr_ni e]; exact x5 j hj
  · unfold MC at hC ⊢
    rw [hz 28 (by omega), hz 29 (by omega), hz 30 (by omega), hz 31 (by omega), hz 7 (by omega), hz 5 (by omega), hz 6 (by omega), hz 21 (by omega), hz 44 (by omega), hz 45 (by omega), hz 3 (by omega), hz 23 (by omega)]
    exact hC
  · unfold PLr at hP ⊢
    rw [hz 44 (by omega), hz 43 (by omega)]
    exact hP
  · unfold KR at hK ⊢
    rw [unimg_z (hz 63 (by omega)), hz 61 (by omega)]
    rcases hK with k | ⟨k, m', nn', nl', nw', k1, k2⟩
    · exact Or.inl k
    · exact Or.inr ⟨k, m', nn', nl', nw', VN_y (fun g _ => hy (g + 100) (by omega)) k1, k2⟩
/-- anything that changes only numbers of the valley: what is to be shown anew -/
theorem R_v {a v w n m nn nl nw : Nat} {S : sT} {P : pT} {Y I Z : zT} {Y' Z' : zT} {m' nn' nl' nw' : Nat} (hy : ∀ f, 66 ≤ f → Y' f = Y f) (hy2 : Y' 33 = Y 33 ∧ Y' 34 = Y 34 ∧ Y' 41 = Y 41 ∧ Y' 42 = Y 42 ∧ Y' 61 = Y 61) (hz : Z' 32 = Z 32 ∧ Z' 33 = Z 33 ∧ Z' 34 = Z 34 ∧ Z' 41 = Z 41 ∧ Z' 42 = Z 42 ∧ Z' 61 = Z 61 ∧ Z' 63 = Z 63)
    (hN : VN m' nn' nl' nw' Y' Z') (hB : MB Z') (hC : MC m' nl' Z') (hP : PLr S P I a n m' v Z') (hR : Rel a v w S P Y I n Z m nn nl nw) : Rel a v w S P Y' I n Z' m' nn' nl' nw' := by
  obtain ⟨h1, h2, h3, h4, h5, h6, h7, h8⟩ := hR
  refine ⟨h1, h2, ?_, hN, hB, hC, hP, ?_⟩
  · unfold XN at h3 ⊢
    rw [hy 217 (by omega), hy2.1, hy2.2.1, hy2.2.2.1, hy2.2.2.2.1, hy2.2.2.2.2, hz.1, hz.2.1, hz.2.2.1, hz.2.2.2.1, hz.2.2.2.2.1, hz.2.2.2.2.2.1]
    exact h3
  · unfold KR at h8 ⊢
    rw [unimg_z hz.2.2.2.2.2.2, hz.2.2.2.2.2.1]
    rcases h8 with k | ⟨k, m', nn', nl', nw', k1, k2⟩
    · exact Or.inl k
    · exact Or.inr ⟨k, m', nn', nl', nw', VN_y (fun g _ => hy (g + 100) (by omega)) k1, k2⟩
theorem R_noise {a v w n m nn nl nw : Nat} {S : sT} {P : pT} {Y I Z : zT} {x : Int32} (hnn : nn < 20) (hR : Rel a v w S P Y I n Z m nn nl nw) : Rel a v w S P (zset (zset Y 19 nn x) 18 0 (nI (nn + 1))) I n (zset (zset Z 19 nn x) 18 0 (nI (nn + 1))) m (nn + 1) nl nw := by
  obtain ⟨⟨hv, hw, hA, h4, h5, hL, hM⟩, hn, hX, hN, hB, hC, hP, hK⟩ := id hR
  have hm4 : m ≤ 4 := hN.2.1.1
  have hn20 : nn ≤ 20 := hN.2.1.2.1
  have hl99 : nl ≤ 99 := hN.2.1.2.2.1
  have hw9 : nw ≤ 9 := hN.2.1.2.2.2
  have hy : ∀ g, g ≠ 19 → g ≠ 18 → zset (zset Y 19 nn x) 18 0 (nI (nn + 1)) g = Y g := fun g h1 h2 => by rw [zs_ne h2, zs_ne h1]
  have hz : ∀ g, g ≠ 19 → g ≠ 18 → zset (zset Z 19 nn x) 18 0 (nI (nn + 1)) g = Z g := fun g h1 h2 => by rw [zs_ne h2, zs_ne h1]
  refine R_v (fun g hg => hy g (by omega) (by omega)) ⟨hy _ (by omega) (by omega), hy _ (by omega) (by omega), hy _ (by omega) (by omega), hy _ (by omega) (by omega), hy _ (by omega) (by omega)⟩ ⟨hz _ (by omega) (by omega), hz _ (by omega) (by omega), hz _ (by omega) (by omega), hz _ (by omega) (by omega), hz _ (by omega) (by omega), hz _ (by omega) (by omega), hz _ (by omega) (by omega)⟩ ?_ (MB_set (MB_set hB (Or.inl rfl)) (Or.inr ⟨nn + 1, by show nn + 1 ≤ 20; omega, rfl⟩)) ?_ ?_ hR
  · unfold VN
    rw [hy 10 (by omega) (by omega), hy 65 (by omega) (by omega), hy 53 (by omega) (by omega), hy 28 (by omega) (by omega), hy 30 (by omega) (by omega), hy 31 (by omega) (by omega), hz 2 (by omega) (by omega), hz 22 (by omega) (by omega), hz 55 (by omega) (by omega), hz 53 (by omega) (by omega), hz 28 (by omega) (by omega), hz 30 (by omega) (by omega), hz 31 (by omega) (by omega)]
    refine ⟨⟨hN.1.1, zr_eq, hN.1.2.2⟩, ⟨hm4, by omega, hl99, hw9⟩, fun g j hj => zs_par ?_, hN.2.2.2⟩
    by_cases e : g = 19 ∧ j = nn
    · obtain ⟨rfl, rfl⟩ := e; rw [zr_eq, zr_eq]
    · refine zs_par (hN.2.2.1 g j ?_)
      by_cases e2 : g = 19
      · subst e2
        have hj' : j < nn + 1 := hj
        show j < nn
        have : j ≠ nn := fun h => e ⟨rfl, h⟩
        omega
      · have : lim m (nn + 1) nl nw g = lim m nn nl nw g := by
          unfold lim
          split <;> first | rfl | exact absurd rfl e2
        rw [this] at hj
        exact hj
  · unfold MC at hC ⊢
    rw [hz 28 (by omega) (by omega), hz 29 (by omega) (by omega), hz 30 (by omega) (by omega), hz 31 (by omega) (by omega), hz 7 (by omega) (by omega), hz 5 (by omega) (by omega), hz 6 (by omega) (by omega), hz 21 (by omega) (by omega), hz 44 (by omega) (by omega), hz 45 (by omega) (by omega), hz 3 (by omega) (by omega), hz 23 (by omega) (by omega)]
    exact hC
  · unfold PLr at hP ⊢
    rw [hz 44 (by omega) (by omega), hz 43 (by omega) (by omega)]
    exact hP
theorem R_watch {a v w n m nn nl nw : Nat} {S : sT} {P : pT} {Y I Z : zT} {x : Int32} (hnw : nw < 9) (hx : ∃ k, k ≤ 99 ∧ x = nI k) (hR : Rel a v w S P Y I n Z m nn nl nw) : Rel a v w S P (zset (zset Y 56 nw x) 55 0 (nI (nw + 1))) I n (zset (zset Z 56 nw x) 55 0 (nI (nw + 1))) m nn nl (nw + 1) := by
  obtain ⟨⟨hv, hw, hA, h4, h5, hL, hM⟩, hn, hX, hN, hB, hC, hP, hK⟩ := id hR
  have hm4 : m ≤ 4 := hN.2.1.1
  have hn20 : nn ≤ 20 := hN.2.1.2.1
  have hl99 : nl ≤ 99 := hN.2.1.2.2.1
  have hw9 : nw ≤ 9 := hN.2.1.2.2.2
  have hy : ∀ g, g ≠ 56 → g ≠ 55 → zset (zset Y 56 nw x) 55 0 (nI (nw + 1)) g = Y g := fun g h1 h2 => by rw [zs_ne h2, zs_ne h1]
  have hz : ∀ g, g ≠ 56 → g ≠ 55 → zset (zset Z 56 nw x) 55 0 (nI (nw + 1)) g = Z g := fun g h1 h2 => by rw [zs_ne h2, zs_ne h1]
  refine R_v (fun g hg => hy g (by omega) (by omega)) ⟨hy _ (by omega) (by omega), hy _ (by omega) (by omega), hy _ (by omega) (by omega), hy _ (by omega) (by omega), hy _ (by omega) (by omega)⟩ ⟨hz _ (by omega) (by omega), hz _ (by omega) (by omega), hz _ (by omega) (by omega), hz _ (by omega) (by omega), hz _ (by omega) (by omega), hz _ (by omega) (by omega), hz _ (by omega) (by omega)⟩ ?_ (MB_set (MB_set hB (Or.inr hx)) (Or.inr ⟨nw + 1, by show nw + 1 ≤ 9; omega, rfl⟩)) ?_ ?_ hR
  · unfold VN
    rw [hy 10 (by omega) (by omega), hy 65 (by omega) (by omega), hy 53 (by omega) (by omega), hy 28 (by omega) (by omega), hy 30 (by omega) (by omega), hy 31 (by omega) (by omega), hz 2 (by omega) (by omega), hz 22 (by omega) (by omega), hz 18 (by omega) (by omega), hz 53 (by omega) (by omega), hz 28 (by omega) (by omega), hz 30 (by omega) (by omega), hz 31 (by omega) (by omega)]
    refine ⟨⟨hN.1.1, hN.1.2.1, hN.1.2.2.1, zr_eq⟩, ⟨hm4, hn20, hl99, by omega⟩, fun g j hj => zs_par ?_, hN.2.2.2⟩
    by_cases e : g = 56 ∧ j = nw
    · obtain ⟨rfl, rfl⟩ := e; rw [zr_eq, zr_eq]
    · refine zs_par (hN.2.2.1 g j ?_)
      by_cases e2 : g = 56
      · subst e2
        have hj' : j < nw + 1 := hj
        show j < nw
        have : j ≠ nw := fun h => e ⟨rfl, h⟩
        omega
      · have : lim m nn nl (nw + 1) g = lim m nn nl nw g := by
          unfold lim
          split <;> first | rfl | exact absurd rfl e2
        rw [this] at hj
        exact hj
  · unfold MC at hC ⊢
    rw [hz 28 (by omega) (by omega), hz 29 (by omega) (by omega), hz 30 (by omega) (by omega), hz 31 (by omega) (by omega), hz 7 (by omega) (by omega), hz 5 (by omega) (by omega), hz 6 (by omega) (by omega), hz 21 (by omega) (by omega), hz 44 (by omega) (by omega), hz 45 (by omega) (by omega), hz 3 (by omega) (by omega), hz 23 (by omega) (by omega)]
    exact hC
  · unfold PLr at hP ⊢
    rw [hz 44 (by omega) (by omega), hz 43 (by omega) (by omega)]
    exact hP
/-- a spot's time -/
theorem R_time {a v w n m nn nl nw : Nat} {S : sT} {P : pT} {Y I Z : zT} {s k : Nat} (hk : k ≤ 8) (hR : Rel a v w S P Y I n Z m nn nl nw) : Rel a v w S P (zset Y 53 s (nI (k + 1))) I n (zset Z 53 s (nI k)) m nn nl nw := by
  obtain ⟨⟨hv, hw, hA, h4, h5, hL, hM⟩, hn, hX, hN, hB, hC, hP, hK⟩ := id hR
  have hm4 : m ≤ 4 := hN.2.1.1
  have hn20 : nn ≤ 20 := hN.2.1.2.1
  have hl99 : nl ≤ 99 := hN.2.1.2.2.1
  have hw9 : nw ≤ 9 := hN.2.1.2.2.2
  have hy : ∀ g, g ≠ 53 → zset Y 53 s (nI (k + 1)) g = Y g := fun g h1 => zs_ne h1
  have hz : ∀ g, g ≠ 53 → zset Z 53 s (nI k) g = Z g := fun g h1 => zs_ne h1
  refine R_v (fun g hg => hy g (by omega)) ⟨hy _ (by omega), hy _ (by omega), hy _ (by omega), hy _ (by omega), hy _ (by omega)⟩ ⟨hz _ (by omega), hz _ (by omega), hz _ (by omega), hz _ (by omega), hz _ (by omega), hz _ (by omega), hz _ (by omega)⟩ ?_ (MB_set hB (Or.inr ⟨k, hk, rfl⟩)) ?_ ?_ hR
  · unfold VN
    rw [hy 10 (by omega), hy 65 (by omega), hy 28 (by omega), hy 30 (by omega), hy 31 (by omega), hz 2 (by omega), hz 22 (by omega), hz 18 (by omega), hz 55 (by omega), hz 28 (by omega), hz 30 (by omega), hz 31 (by omega)]
    refine ⟨hN.1, hN.2.1, fun g j hj => ?_, hN.2.2.2.1, hN.2.2.2.2.1, fun j hj => ?_, hN.2.2.2.2.2.2⟩
    · have : g ≠ 53 := by rintro rfl; exact absurd hj (Nat.not_lt_zero _)
      rw [zr_ne this, zr_ne this]
      exact hN.2.2.1 g j hj
    · by_cases e : j = s
      · subst e; rw [zr_eq, zr_eq, ni_add]
      · rw [zr_ni e, zr_ni e]; exact hN.2.2.2.2.2.1 j hj
  · unfold MC at hC ⊢
    rw [hz 28 (by omega), hz 29 (by omega), hz 30 (by omega), hz 31 (by omega), hz 7 (by omega), hz 5 (by omega), hz 6 (by omega), hz 21 (by omega), hz 44 (by omega), hz 45 (by omega), hz 3 (by omega), hz 23 (by omega)]
    exact hC
  · unfold PLr at hP ⊢
    rw [hz 44 (by omega), hz 43 (by omega)]
    exact hP
