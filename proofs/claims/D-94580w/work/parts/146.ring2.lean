/-! LAYER 2: rings: OneEyeModel's rows -/
/-- a memory that holds rows -/
def RW (Z0 z : zT) (r : Nat → Nat) : Prop := (∀ g, g ≠ 59 → z g = Z0 g) ∧ (∀ q, q < 16 → z 59 q = nI (r q)) ∧ ∀ q, r q < 4096
theorem RW_set {Z0 z : zT} {r : Nat → Nat} {q b : Nat} (hb : b < 12) (h : RW Z0 z r) : RW Z0 (zset z 59 q (nI (r q ||| 2 ^ b))) (upn r q (r q ||| 2 ^ b)) := by
  obtain ⟨h1, h2, h3⟩ := h
  refine ⟨fun g hg => by rw [zs_ne hg]; exact h1 g hg, fun p hp => ?_, fun p => ?_⟩
  · by_cases e : p = q
    · subst e; rw [zr_eq, upn_e]
    · rw [zr_ni e, upn_n e]; exact h2 p hp
  · unfold upn
    split
    · exact Nat.or_lt_two_pow (n := 12) (h3 q) (Nat.pow_lt_pow_right (by omega) hb)
    · exact h3 p
theorem upn_tb {r : Nat → Nat} {q b p c : Nat} : (upn r q (r q ||| 2 ^ b) p).testBit c = true ↔ (r p).testBit c = true ∨ (p = q ∧ c = b) := by
  unfold upn
  by_cases e : p = q
  · subst e
    rw [if_pos rfl, Nat.testBit_or, Bool.or_eq_true, Nat.testBit_two_pow, decide_eq_true_eq]
    exact ⟨fun h => h.imp id fun h => ⟨rfl, h.symm⟩, fun h => h.imp id fun h => h.2.symm⟩
  · rw [if_neg e]
    exact ⟨Or.inl, fun h => h.elim id fun h => absurd h.1 e⟩
/-- a row of s whose last lends y goes on to q, whose last is b -/
def edge (L : Nat → Nat → Nat → Bool) (m set s y q b : Nat) : Prop := ∃ t, t < m ∧ set.testBit t = true ∧ s.testBit t = false ∧ ∃ x, x < 3 ∧ L t x y = true ∧ q = s ||| 2 ^ t ∧ b = 3 * t + x
theorem m_gr37 {Z0 z : zT} {r : Nat → Nat} {set s c t : Nat} {J : zT → Option zT} (hB : MB Z0) (hr : RW Z0 z r) (hs : s < 16) (ht : t < 4) (hst : s.testBit t = false) (hc : c < 12) :
    ∃ r' z', RW Z0 z' r' ∧ (∀ q b, (r' q).testBit b = true ↔ (r q).testBit b = true ∨ ∃ x, x < 3 ∧ Ln Z0 t x (c % 3) = true ∧ q = s ||| 2 ^ t ∧ b = 3 * t + x) ∧ it1 (lX4_grows_37 (nI s) (nI c) (nI t) J) FU z (nI 0) = J z' := by
  obtain ⟨_, hq16, _⟩ := more_k ⟨s, hs⟩ ⟨t, ht⟩ hst
  have hq16 : s ||| 2 ^ t < 16 := hq16
  refine it1_up (Q := fun o => ∃ r' z', RW Z0 z' r' ∧ (∀ q b, (r' q).testBit b = true ↔ (r q).testBit b = true ∨ ∃ x, x < 3 ∧ Ln Z0 t x (c % 3) = true ∧ q = s ||| 2 ^ t ∧ b = 3 * t + x) ∧ o = J z') (N := 3) (fun k z => ∃ r', RW Z0 z r' ∧ ∀ q b, (r' q).testBit b = true ↔ (r q).testBit b = true ∨ ∃ x, x < k ∧ Ln Z0 t x (c % 3) = true ∧ q = s ||| 2 ^ t ∧ b = 3 * t + x) ?_ ?_ (F := FU) (FU_lt (by omega)) ⟨r, hr, fun q b => ⟨Or.inl, fun h => h.elim id fun ⟨x, h, _⟩ => absurd h (Nat.not_lt_zero _)⟩⟩
  · rintro kk k z hk ⟨r', hr', hb⟩
    have eo : nI s ||| js (nI 1) (nI t) = nI (s ||| 2 ^ t) := by rw [js_2 (by omega), ni_or]
    have h59 := hr'.2.1 (s ||| 2 ^ t) hq16
    have h58 : z 58 = Z0 58 := hr'.1 58 (by omega)
    unfold lX4_grows_37
    rcases Ln_k hB t k (c % 3) with ⟨l1, l2⟩ | ⟨l1, l2⟩
    · have e58 : z 58 (9 * t + 3 * k + c % 3) = nI 1 := by rw [h58]; exact l2
      refine ⟨zset z 59 (s ||| 2 ^ t) (nI (r' (s ||| 2 ^ t) ||| 2 ^ (3 * t + k))), ?_, upn r' (s ||| 2 ^ t) (r' (s ||| 2 ^ t) ||| 2 ^ (3 * t + k)), RW_set (by omega) hr', fun q b => ?_⟩
      · generalize s ||| 2 ^ t = q at *
        have ejs : js (nI 1) (nI (3 * t + k)) = nI (2 ^ (3 * t + k)) := js_2 (by omega)
        ((repeat (first | (with_reducible refine Eq.trans njE ?_; (try dsimp only)) | ((conv => lhs; arg 1; simp (maxSteps := 1000000) (disch := omega) only [eo, e58, h59, ni_rem, ejs, ni_or, li_0, li_1, li_2, li_3, li_4, li_5, li_6, li_7, li_8, li_9, li_10, li_11, li_12, li_13, li_14, li_15, li_16, li_17, li_18, li_19, li_20, li_21, li_22, li_23, li_24, li_25, li_26, li_27, li_28, li_29, li_30, li_31, li_32, li_33, li_34, li_35, li_36, li_37, li_38, li_39, li_40, li_41, li_42, li_43, li_44, li_45, li_48, li_57, li_59, li_61, li_63, li_64, li_65, li_72, li_90, li_97, li_99, li_101, li_102, li_103, li_104, li_105, li_108, li_109, li_111, li_114, li_115, li_116, li_117, li_118, li_120, li_121, li_122, li_216, li_240, li_255, li_256, li_380, li_400, li_480, li_511, li_512, li_729, li_1000, li_5184, li_10000, li_46656, li_65536, li_99999, li_1000000, ni_add, ni_mul, ni_sub, ni_ix, inb_t, ni_le_t, ni_le_f, ni_lt_t, ni_lt_f, ni_eq_t, ni_eq_f, ni_m1, ni_m1', ni_mn, ni_mn', Nat.add_sub_cancel, Nat.add_zero, zr_ne, zr_ni, zr_eq, gd_t, bd_s, if_true, if_false, Bool.not_true, Bool.not_false, ↓reduceIte, decide_false, decide_true]); (first | with_reducible refine Eq.trans gd_t ?_ | with_reducible refine Eq.trans bd_s ?_ | with_reducible refine Eq.trans bdp_s ?_ | with_reducible refine Eq.trans (if_pos trivial) ?_ | with_reducible refine Eq.trans (if_neg not_false) ?_ | with_reducible refine Eq.trans nmE ?_))));  (try simp (maxSteps := 1000000) (disch := omega) only [eo, e58, h59, ni_rem, ejs, ni_or, li_0, li_1, li_2, li_3, li_4, li_5, li_6, li_7, li_8, li_9, li_10, li_11, li_12, li_13, li_14, li_15, li_16, li_17, li_18, li_19, li_20, li_21, li_22, li_23, li_24, li_25, li_26, li_27, li_28, li_29, li_30, li_31, li_32, li_33, li_34, li_35, li_36, li_37, li_38, li_39, li_40, li_41, li_42, li_43, li_44, li_45, li_48, li_57, li_59, li_61, li_63, li_64, li_65, li_72, li_90, li_97, li_99, li_101, li_102, li_103, li_104, li_105, li_108, li_109, li_111, li_114, li_115, li_116, li_117, li_118, li_120, li_121, li_122, li_216, li_240, li_255, li_256, li_380, li_400, li_480, li_511, li_512, li_729, li_1000, li_5184, li_10000, li_46656, li_65536, li_99999, li_1000000, ni_add, ni_mul, ni_sub, ni_ix, inb_t, ni_le_t, ni_le_f, ni_lt_t, ni_lt_f, ni_eq_t, ni_eq_f, ni_m1, ni_m1', ni_mn, ni_mn', Nat.add_sub_cancel, Nat.add_zero, zr_ne, zr_ni, zr_eq, gd_t, bd_s, if_true, if_false, Bool.not_true, Bool.not_false, ↓reduceIte, decide_false, decide_true]))
      · rw [upn_tb, hb]
        constructor
        · rintro ((h | ⟨x, h1, h2, h3⟩) | ⟨h1, h2⟩)
          · exact Or.inl h
          · exact Or.inr ⟨x, by omega, h2, h3⟩
          · exact Or.inr ⟨k, by omega, l1, h1, h2⟩
        · rintro (h | ⟨x, h1, h2, h3, h4⟩)
          · exact Or.inl (Or.inl h)
          · rcases Nat.lt_or_ge x k with c' | c'
            · exact Or.inl (Or.inr ⟨x, c', h2, h3, h4⟩)
            · obtain rfl : x = k := by omega
              exact Or.inr ⟨h3, h4⟩
    · have e58 : z 58 (9 * t + 3 * k + c % 3) = nI 0 := by rw [h58]; exact l2
      refine ⟨z, ?_, r', hr', fun q b => ?_⟩
      · ((repeat (first | (with_reducible refine Eq.trans njE ?_; (try dsimp only)) | ((conv => lhs; arg 1; simp (maxSteps := 1000000) (disch := omega) only [e58, ni_rem, li_0, li_1, li_2, li_3, li_4, li_5, li_6, li_7, li_8, li_9, li_10, li_11, li_12, li_13, li_14, li_15, li_16, li_17, li_18, li_19, li_20, li_21, li_22, li_23, li_24, li_25, li_26, li_27, li_28, li_29, li_30, li_31, li_32, li_33, li_34, li_35, li_36, li_37, li_38, li_39, li_40, li_41, li_42, li_43, li_44, li_45, li_48, li_57, li_59, li_61, li_63, li_64, li_65, li_72, li_90, li_97, li_99, li_101, li_102, li_103, li_104, li_105, li_108, li_109, li_111, li_114, li_115, li_116, li_117, li_118, li_120, li_121, li_122, li_216, li_240, li_255, li_256, li_380, li_400, li_480, li_511, li_512, li_729, li_1000, li_5184, li_10000, li_46656, li_65536, li_99999, li_1000000, ni_add, ni_mul, ni_sub, ni_ix, inb_t, ni_le_t, ni_le_f, ni_lt_t, ni_lt_f, ni_eq_t, ni_eq_f, ni_m1, ni_m1', ni_mn, ni_mn', Nat.add_sub_cancel, Nat.add_zero, zr_ne, zr_ni, zr_eq, gd_t, bd_s, if_true, if_false, Bool.not_true, Bool.not_false, ↓reduceIte, decide_false, decide_true]); (first | with_reducible refine Eq.trans gd_t ?_ | with_reducible refine Eq.trans bd_s ?_ | with_reducible refine Eq.trans bdp_s ?_ | with_reducible refine Eq.trans (if_pos trivial) ?_ | with_reducible refine Eq.trans (if_neg not_false) ?_ | with_reducible refine Eq.trans nmE ?_))));  (try simp (maxSteps := 1000000) (disch := omega) only [e58, ni_rem, li_0, li_1, li_2, li_3, li_4, li_5, li_6, li_7, li_8, li_9, li_10, li_11, li_12, li_13, li_14, li_15, li_16, li_17, li_18, li_19, li_20, li_21, li_22, li_23, li_24, li_25, li_26, li_27, li_28, li_29, li_30, li_31, li_32, li_33, li_34, li_35, li_36, li_37, li_38, li_39, li_40, li_41, li_42, li_43, li_44, li_45, li_48, li_57, li_59, li_61, li_63, li_64, li_65, li_72, li_90, li_97, li_99, li_101, li_102, li_103, li_104, li_105, li_108, li_109, li_111, li_114, li_115, li_116, li_117, li_118, li_120, li_121, li_122, li_216, li_240, li_255, li_256, li_380, li_400, li_480, li_511, li_512, li_729, li_1000, li_5184, li_10000, li_46656, li_65536, li_99999, li_1000000, ni_add, ni_mul, ni_sub, ni_ix, inb_t, ni_le_t, ni_le_f, ni_lt_t, ni_lt_f, ni_eq_t, ni_eq_f, ni_m1, ni_m1', ni_mn, ni_mn', Nat.add_sub_cancel, Nat.add_zero, zr_ne, zr_ni, zr_eq, gd_t, bd_s, if_true, if_false, Bool.not_true, Bool.not_false, ↓reduceIte, decide_false, decide_true]))
      · rw [hb]
        constructor
        · rintro (h | ⟨x, h1, h2, h3⟩)
          · exact Or.inl h
          · exact Or.inr ⟨x, by omega, h2, h3⟩
        · rintro (h | ⟨x, h1, h2, h3⟩)
          · exact Or.inl h
          · rcases Nat.lt_or_ge x k with c' | c'
            · exact Or.inr ⟨x, c', h2, h3⟩
            · obtain rfl : x = k := by omega
              rw [l1] at h2; cases h2
  · rintro kk z ⟨r', hr', hb⟩
    exact ⟨r', z, hr', hb, if_pos (by decide)⟩
theorem m_grows {Z0 z : zT} {r : Nat → Nat} {m set s c : Nat} (hB : MB Z0) (h2 : Z0 2 0 = nI m) (hm : m ≤ 4) (hr : RW Z0 z r) (hs : s < 16) (hset : set < 16) (hc : c < 12) :
    ∃ r' z', RW Z0 z' r' ∧ (∀ q b, (r' q).testBit b = true ↔ (r q).testBit b = true ∨ edge (Ln Z0) m set s (c % 3) q b) ∧ fX4_grows z (nI s) (nI set) (nI c) = some z' := by
  unfold fX4_grows
  rw [njE]
  refine it1_up (Q := fun o => ∃ r' z', RW Z0 z' r' ∧ (∀ q b, (r' q).testBit b = true ↔ (r q).testBit b = true ∨ edge (Ln Z0) m set s (c % 3) q b) ∧ o = some z') (N := m) (fun k z => ∃ r', RW Z0 z r' ∧ ∀ q b, (r' q).testBit b = true ↔ (r q).testBit b = true ∨ edge (Ln Z0) k set s (c % 3) q b) ?_ ?_ (F := FU) (FU_lt (by omega)) ⟨r, hr, fun q b => ⟨Or.inl, fun h => h.elim id fun ⟨x, h, _⟩ => absurd h (Nat.not_lt_zero _)⟩⟩
  · rintro kk k z hk ⟨r', hr', hb⟩
    have t1 := tb_i (a := set) (k := k) (by omega) (by omega)
    have t2 := tb_i (a := s) (k := k) (by omega) (by omega)
    have hz2 : z 2 0 = nI m := by rw [hr'.1 2 (by omega)]; exact h2
    have hlt : ¬ z 2 0 ≤ nI k := by rw [hz2]; exact nI_ge hk (by omega)
    have hk1 : nI k + (1 : Int32) = nI (k + 1) := nI_1 k
    have hsame : (∀ q b, (r' q).testBit b = true ↔ (r q).testBit b = true ∨ edge (Ln Z0) k set s (c % 3) q b) → ¬ (set.testBit k = true ∧ s.testBit k = false) → ∀ q b, (r' q).testBit b = true ↔ (r q).testBit b = true ∨ edge (Ln Z0) (k + 1) set s (c % 3) q b := by
      intro hb hno q b
      rw [hb]
      constructor
      · rintro (h | ⟨t, g1, g2⟩)
        · exact Or.inl h
        · exact Or.inr ⟨t, by omega, g2⟩
      · rintro (h | ⟨t, g1, g2, g3, g4⟩)
        · exact Or.inl h
        · rcases Nat.lt_or_ge t k with c' | c'
          · exact Or.inr ⟨t, c', g2, g3, g4⟩
          · obtain rfl : t = k := by omega
            exact absurd ⟨g2, g3⟩ hno
    unfold lX4_grows_3
    rw [if_neg hlt, njE]
    dsimp only
    simp only [nmE, hk1]
    cases c1 : set.testBit k
    · rw [c1, if_neg (by decide)] at t1
      refine ⟨z, ?_, r', hr', hsame hb (by rw [c1]; exact fun g => absurd g.1 (by decide))⟩
      exact if_pos (by show jsr (nI set) (nI k) &&& nI 1 = (0 : Int32); rw [t1]; rfl)
    · rw [c1, if_pos rfl] at t1
      rw [if_neg (by show ¬ jsr (nI set) (nI k) &&& nI 1 = (0 : Int32); rw [t1]; decide)]
      cases c2 : s.testBit k
      · rw [c2, if_neg (by decide)] at t2
        rw [if_neg (by show ¬ jsr (nI s) (nI k) &&& nI 1 = (1 : Int32); rw [t2]; decide), njE]
        obtain ⟨r2, z2, g1, g2, g3⟩ := m_gr37 (J := fun (Z104 : zT) => kk Z104 (nI (k + 1))) (c := c) (set := set) hB hr' hs (show k < 4 by omega) c2 hc
        refine ⟨z2, ?_, r2, g1, fun q b => ?_⟩
        · exact g3
        · rw [g2, hb]
          constructor
          · rintro ((h | ⟨t, e1, e2⟩) | h)
            · exact Or.inl h
            · exact Or.inr ⟨t, by omega, e2⟩
            · exact Or.inr ⟨k, by omega, c1, c2, h⟩
          · rintro (h | ⟨t, e1, e2, e3, e4⟩)
            · exact Or.inl (Or.inl h)
            · rcases Nat.lt_or_ge t k with c' | c'
              · exact Or.inl (Or.inr ⟨t, c', e2, e3, e4⟩)
              · obtain rfl : t = k := by omega
                exact Or.inr e4
      · rw [c2, if_pos rfl] at t2
        refine ⟨z, ?_, r', hr', hsame hb (by rw [c2]; exact fun g => absurd g.2 (by decide))⟩
        exact if_pos (by show jsr (nI s) (nI k) &&& nI 1 = (1 : Int32); rw [t2]; rfl)
  · rintro kk z ⟨r', hr', hb⟩
    refine ⟨r', z, hr', hb, ?_⟩
    unfold lX4_grows_3
    rw [if_pos]
    rw [hr'.1 2 (by omega), h2]
    exact nI_le (Nat.le_refl _) (by omega)
theorem edge_up {L : Nat → Nat → Nat → Bool} {m set s y q b : Nat} (hm : m ≤ 4) (hs : s < 16) (h : edge L m set s y q b) : s < q ∧ q < 16 ∧ b < 12 := by
  obtain ⟨t, h1, h2, h3, x, h4, h5, rfl, rfl⟩ := h
  obtain ⟨_, g2, g3⟩ := more_k ⟨s, hs⟩ ⟨t, by omega⟩ h3
  have g3 : s ||| 2 ^ t = s + 2 ^ t := g3
  have g2 : s ||| 2 ^ t < 16 := g2
  have := Nat.two_pow_pos t
  omega
theorem m_is74 {Z0 z : zT} {r : Nat → Nat} {m set s : Nat} {J : zT → Option (Int32 × zT)} (hB : MB Z0) (h2 : Z0 2 0 = nI m) (hm : m ≤ 4) (hr : RW Z0 z r) (hs : s < 16) (hset : set < 16) :
    ∃ r' z', RW Z0 z' r' ∧ (∀ q b, (r' q).testBit b = true ↔ (r q).testBit b = true ∨ ∃ c, c < 12 ∧ (r s).testBit c = true ∧ edge (Ln Z0) m set s (c % 3) q b) ∧ it1 (lX4_isRing_74 (nI set) (nI s) J) FU z (nI 0) = J z' := by
  refine it1_up (Q := fun o => ∃ r' z', RW Z0 z' r' ∧ (∀ q b, (r' q).testBit b = true ↔ (r q).testBit b = true ∨ ∃ c, c < 12 ∧ (r s).testBit c = true ∧ edge (Ln Z0) m set s (c % 3) q b) ∧ o = J z') (N := 12) (fun k z => ∃ r', RW Z0 z r' ∧ ∀ q b, (r' q).testBit b = true ↔ (r q).testBit b = true ∨ ∃ c, c < k ∧ (r s).testBit c = true ∧ edge (Ln Z0) m set s (c % 3) q b) ?_ ?_ (F := FU) (FU_lt (by omega)) ⟨r, hr, fun q b => ⟨Or.inl, fun h => h.elim id fun ⟨x, h, _⟩ => absurd h (Nat.not_lt_zero _)⟩⟩
  · rintro kk k z hk ⟨r', hr', hb⟩
    have hss : (r' s).testBit k = (r s).testBit k := by
      have h := hb s k
      have hno : ¬ ∃ c, c < k ∧ (r s).testBit c = true ∧ edge (Ln Z0) m set s (c % 3) s k := by
        rintro ⟨c, _, _, h⟩
        have := (edge_up hm hs h).1
        omega
      cases c1 : (r s).testBit k
      · cases c2 : (r' s).testBit k
        · rfl
        · rcases h.mp c2 with g | g
          · rw [c1] at g; cases g
          · exact absurd g hno
      · exact h.mpr (Or.inl c1)
    have t1 := tb_i (a := r' s) (k := k) (by have := hr'.2.2 s; omega) (by omega)
    have hk1 : nI k + (1 : Int32) = nI (k + 1) := nI_1 k
    have e59 : jsr (z 59 (ix (nI s))) (nI k) &&& (1 : Int32) = if (r' s).testBit k = true then nI 1 else nI 0 := by
      rw [ni_ix (by omega), hr'.2.1 s hs]
      exact t1
    unfold lX4_isRing_74
    rw [if_neg (show ¬ (12 : Int32) ≤ nI k from nI_ge (b := 12) hk (by omega)), njE, e59, hss]
    dsimp only
    simp only [nmE, hk1]
    by_cases c1 : (r s).testBit k = true
    · rw [if_pos c1, if_pos (show nI 1 = (1 : Int32) from rfl)]
      obtain ⟨r2, z2, g1, g2, g3⟩ := m_grows hB h2 hm hr' hs hset hk
      refine ⟨z2, ?_, r2, g1, fun q b => ?_⟩
      · rw [g3, bd_s]
      · rw [g2, hb]
        constructor
        · rintro ((h | ⟨c, e1, e2⟩) | h)
          · exact Or.inl h
          · exact Or.inr ⟨c, by omega, e2⟩
          · exact Or.inr ⟨k, by omega, c1, h⟩
        · rintro (h | ⟨c, e1, e2, e3⟩)
          · exact Or.inl (Or.inl h)
          · rcases Nat.lt_or_ge c k with c' | c'
            · exact Or.inl (Or.inr ⟨c, c', e2, e3⟩)
            · obtain rfl : c = k := by omega
              exact Or.inr e3
    · rw [if_neg c1, if_neg (show ¬ nI 0 = (1 : Int32) from by decide)]
      refine ⟨z, rfl, r', hr', fun q b => ?_⟩
      rw [hb]
      constructor
      · rintro (h | ⟨c, e1, e2⟩)
        · exact Or.inl h
        · exact Or.inr ⟨c, by omega, e2⟩
      · rintro (h | ⟨c, e1, e2, e3⟩)
        · exact Or.inl h
        · rcases Nat.lt_or_ge c k with c' | c'
          · exact Or.inr ⟨c, c', e2, e3⟩
          · obtain rfl : c = k := by omega
            exact absurd e2 c1
  · rintro kk z ⟨r', hr', hb⟩
    exact ⟨r', z, hr', hb, if_pos (by decide)⟩
theorem m_is42 {Z0 z : zT} {r : Nat → Nat} {m set : Nat} {J : zT → Option (Int32 × zT)} (hB : MB Z0) (h2 : Z0 2 0 = nI m) (hm : m ≤ 4) (hr : RW Z0 z r) (hset : set < 16) :
    ∃ r' z', RW Z0 z' r' ∧ (∀ q b, (r' q).testBit b = true ↔ (r q).testBit b = true ∨ ∃ s, s < 16 ∧ s &&& cm set = 0 ∧ ∃ c, c < 12 ∧ (r' s).testBit c = true ∧ edge (Ln Z0) m set s (c % 3) q b) ∧ it1 (lX4_isRing_42 (nI set) J) FU z (nI 0) = J z' := by
  refine it1_up (Q := fun o => ∃ r' z', RW Z0 z' r' ∧ (∀ q b, (r' q).testBit b = true ↔ (r q).testBit b = true ∨ ∃ s, s < 16 ∧ s &&& cm set = 0 ∧ ∃ c, c < 12 ∧ (r' s).testBit c = true ∧ edge (Ln Z0) m set s (c % 3) q b) ∧ o = J z') (N := 16) (fun k z => ∃ r', RW Z0 z r' ∧ ∀ q b, (r' q).testBit b = true ↔ (r q).testBit b = true ∨ ∃ s, s < k ∧ s &&& cm set = 0 ∧ ∃ c, c < 12 ∧ (r' s).testBit c = true ∧ edge (Ln Z0) m set s (c % 3) q b) ?_ ?_ (F := FU) (FU_lt (by omega)) ⟨r, hr, fun q b => ⟨Or.inl, fun h => h.elim id fun ⟨x, h, _⟩ => absurd h (Nat.not_lt_zero _)⟩⟩
  · rintro kk k z hk ⟨r', hr', hb⟩
    have hk1 : nI k + (1 : Int32) = nI (k + 1) := nI_1 k
    have ec : nI k &&& (nI set ^^^ (-1 : Int32)) = nI (k &&& cm set) := by rw [ni_cm (show set < 4294967296 by omega), ni_and]
    have hb1 : k &&& cm set < 16 := Nat.lt_of_le_of_lt Nat.and_le_left (by omega)
    have hsame : (k &&& cm set = 0 → ∀ c, c < 12 → ¬ (r' k).testBit c = true) → ∀ q b, (r' q).testBit b = true ↔ (r q).testBit b = true ∨ ∃ s, s < k + 1 ∧ s &&& cm set = 0 ∧ ∃ c, c < 12 ∧ (r' s).testBit c = true ∧ edge (Ln Z0) m set s (c % 3) q b := by
      intro hno q b
      constructor
      · intro h
        rcases (hb q b).mp h with h | ⟨s, e1, e2⟩
        · exact Or.inl h
        · exact Or.inr ⟨s, by omega, e2⟩
      · rintro (h | ⟨s, e1, e2, c, e3, e4, e5⟩)
        · exact (hb q b).mpr (Or.inl h)
        · rcases Nat.lt_or_ge s k with c' | c'
          · exact (hb q b).mpr (Or.inr ⟨s, c', e2, c, e3, e4, e5⟩)
          · obtain rfl : s = k := by omega
            exact absurd e4 (hno e2 c e3)
    unfold lX4_isRing_42
    rw [if_neg (show ¬ (16 : Int32) ≤ nI k from nI_ge (b := 16) hk (by omega)), njE, ec]
    dsimp only
    simp only [nmE, hk1]
    by_cases c1 : k &&& cm set = 0
    · rw [if_pos (show nI (k &&& cm set) = (0 : Int32) from by rw [c1]; rfl), gd_of (inb_t (n := 16) hk (by omega)), ni_ix (by omega), hr'.2.1 k hk]
      by_cases c2 : r' k = 0
      · refine ⟨z, ?_, r', hr', hsame fun _ c _ g => ?_⟩
        · rw [if_pos (show nI (r' k) = (0 : Int32) from by rw [c2]; rfl)]
        · rw [c2, Nat.zero_testBit] at g; cases g
      · obtain ⟨r2, z2, g1, g2, g3⟩ := m_is74 (J := fun (Z112 : zT) => kk Z112 (nI (k + 1))) hB h2 hm hr' hk hset
        have hlow : ∀ p c, p ≤ k → ((r2 p).testBit c = true ↔ (r' p).testBit c = true) := by
          intro p c hp
          rw [g2]
          refine ⟨fun h => h.elim id ?_, Or.inl⟩
          rintro ⟨c', _, _, e⟩
          have := (edge_up hm hk e).1
          omega
        refine ⟨z2, ?_, r2, g1, fun q b => ?_⟩
        · rw [if_neg (show ¬ nI (r' k) = (0 : Int32) from ni_ne (q := 0) c2 (by have := hr'.2.2 k; omega) (by omega)), njE]
          exact g3
        · rw [g2, hb]
          constructor
          · rintro ((h | ⟨s, e1, e2, c, e3, e4, e5⟩) | ⟨c, e1, e2, e3⟩)
            · exact Or.inl h
            · exact Or.inr ⟨s, by omega, e2, c, e3, (hlow s c (by omega)).mpr e4, e5⟩
            · exact Or.inr ⟨k, by omega, c1, c, e1, (hlow k c (Nat.le_refl _)).mpr e2, e3⟩
          · rintro (h | ⟨s, e1, e2, c, e3, e4, e5⟩)
            · exact Or.inl (Or.inl h)
            · have e4' := (hlow s c (by omega)).mp e4
              rcases Nat.lt_or_ge s k with c' | c'
              · exact Or.inl (Or.inr ⟨s, c', e2, c, e3, e4', e5⟩)
              · obtain rfl : s = k := by omega
                exact Or.inr ⟨c, e3, e4', e5⟩
    · rw [if_neg (show ¬ nI (k &&& cm set) = (0 : Int32) from ni_ne (q := 0) c1 (by omega) (by omega))]
      exact ⟨z, rfl, r', hr', hsame fun g => absurd g c1⟩
  · rintro kk z ⟨r', hr', hb⟩
    exact ⟨r', z, hr', hb, if_pos (by decide)⟩
/-- what rows there are decides what closes -/
theorem sub_k : ∀ q : Fin 16, ∀ set : Fin 16, ∀ t : Fin 4, q.1 &&& cm set.1 = 0 → set.1.testBit t.1 = true → (q.1 ||| 2 ^ t.1) &&& cm set.1 = 0 := by decide +kernel
theorem sub1_k : ∀ set : Fin 16, ∀ t : Fin 4, set.1.testBit t.1 = true → 2 ^ t.1 &&& cm set.1 = 0 := by decide +kernel
theorem rows_f {L : Nat → Nat → Nat → Bool} {r : Nat → Nat} {m f fl set : Nat} (hm : m ≤ 4) (hset : set < 16) (hb : ∀ s c q b, s < 16 → s &&& cm set = 0 → c < 12 → (r s).testBit c = true → edge L m set s (c % 3) q b → (r q).testBit b = true) : ∀ d q c, q < 16 → q &&& cm set = 0 → c < 12 → (r q).testBit c = true → clo L m f fl set d (c % 3) q → ∃ c, c < 12 ∧ (r set).testBit c = true ∧ L f fl (c % 3) = true := by
  intro d
  induction d with
  | zero => intro q c _ _ _ _ h; exact absurd h id
  | succ d ih =>
    rintro q c h1 h2 h3 h4 (⟨rfl, h⟩ | ⟨t, g1, g2, g3, x, g4, g5, g6⟩)
    · exact ⟨c, h3, h4, h⟩
    · have he : edge L m set q (c % 3) (q ||| 2 ^ t) (3 * t + x) := ⟨t, g1, g2, g3, x, g4, g5, rfl, rfl⟩
      obtain ⟨_, e2, e3⟩ := edge_up hm h1 he
      refine ih (q ||| 2 ^ t) (3 * t + x) e2 (sub_k ⟨q, h1⟩ ⟨set, hset⟩ ⟨t, by omega⟩ h2 g2) e3 (hb q c _ _ h1 h2 h3 h4 he) ?_
      rw [show (3 * t + x) % 3 = x from by omega]
      exact g6
theorem rows_b {L : Nat → Nat → Nat → Bool} {r : Nat → Nat} {m f fl set : Nat} (hm : m ≤ 4) (hfl : fl < 3) (hb : ∀ q b, (r q).testBit b = true → (q = 2 ^ f ∧ b = 3 * f + fl) ∨ ∃ s, s < 16 ∧ ∃ c, c < 12 ∧ (r s).testBit c = true ∧ edge L m set s (c % 3) q b) : ∀ q c, (r q).testBit c = true → Clo L m f fl set (c % 3) q → Clo L m f fl set fl (2 ^ f) := by
  intro q
  induction q using Nat.strongRecOn with
  | _ q ih =>
    intro c h1 h2
    rcases hb q c h1 with ⟨rfl, rfl⟩ | ⟨s, g1, c', g2, g3, g4⟩
    · rw [show (3 * f + fl) % 3 = fl from by omega] at h2
      exact h2
    · have hlt := (edge_up hm g1 g4).1
      refine ih s hlt c' g3 (Clo_e.mpr (Or.inr ?_))
      obtain ⟨t, e1, e2, e3, x, e4, e5, rfl, rfl⟩ := g4
      rw [show (3 * t + x) % 3 = x from by omega] at h2
      exact ⟨t, e1, e2, e3, x, e4, e5, h2⟩
