/-! LAYER 2: watches: what a way is worth; OneEyeModel's side -/
def wa (Z : zT) (k : Nat) : Nat := ix (Z 56 k)
theorem wa_k {Z : zT} (hB : MB Z) (k : Nat) : wa Z k ≤ 99 ∧ Z 56 k = nI (wa Z k) := by
  obtain ⟨j, hj, e⟩ := MB_at hB 56 k (by decide)
  have hj : j ≤ 99 := hj
  unfold wa
  rw [e, ni_ix (by omega)]
  exact ⟨hj, rfl⟩
/-- what a member has of the first k watches, the last one the lowest digit -/
def sp (Z : zT) : Nat → Nat → Nat → Nat
  | 0, _, _ => 0
  | k + 1, v, x => (if v % 3 = x then wa Z k else 0) + sp Z k (v / 3) x
theorem sp_le {Z : zT} (hB : MB Z) (k v x : Nat) : sp Z k v x ≤ 99 * k := by
  induction k generalizing v with
  | zero => exact Nat.le_refl _
  | succ k ih =>
    show (if v % 3 = x then wa Z k else 0) + sp Z k (v / 3) x ≤ _
    have h1 := (wa_k hB k).1
    have h2 := ih (v / 3)
    split <;> omega
/-- who has a watch -/
def dg : Nat → Nat → Nat → Nat
  | 0, _, _ => 0
  | k + 1, v, j => if j = k then v % 3 else dg k (v / 3) j
theorem dg_lt (k v j : Nat) : dg k v j < 3 := by
  induction k generalizing v with
  | zero => show 0 < 3; omega
  | succ k ih =>
    show (if j = k then v % 3 else dg k (v / 3) j) < 3
    split
    · omega
    · exact ih _
def mx3 (a b c : Nat) : Nat := if a < b then (if b < c then c else b) else (if a < c then c else a)
def mn3 (a b c : Nat) : Nat := if b < a then (if c < b then c else b) else (if c < a then c else a)
def uu (Z : zT) (nw p : Nat) : Nat := mx3 (sp Z nw p 0) (sp Z nw p 1) (sp Z nw p 2) - mn3 (sp Z nw p 0) (sp Z nw p 1) (sp Z nw p 2)
theorem mm3 (a b c : Nat) : mn3 a b c ≤ mx3 a b c := by
  unfold mn3 mx3
  (repeat' split) <;> omega
theorem uu_le {Z : zT} (hB : MB Z) {nw : Nat} (h : nw ≤ 9) (p : Nat) : uu Z nw p ≤ 891 := by
  have h0 := sp_le hB nw p 0
  have h1 := sp_le hB nw p 1
  have h2 := sp_le hB nw p 2
  unfold uu mx3
  split <;> split <;> omega
def SW (Z0 z : zT) (t : Nat → Nat) : Prop := (∀ g, g ≠ 57 → z g = Z0 g) ∧ ∀ x, x < 3 → z 57 x = nI (t x)
theorem m_spread {Z0 z : zT} {nw p : Nat} (hB : MB Z0) (h55 : Z0 55 0 = nI nw) (hw : nw ≤ 9) (hp : p < 19683) (hz : ∀ g, g ≠ 57 → z g = Z0 g) : ∃ z', (∀ g, g ≠ 57 → z' g = Z0 g) ∧ fX4_spread z (nI p) = some (nI (uu Z0 nw p), z') := by
  have hclr : ∀ J : zT → Option (Int32 × zT), ∃ z', SW Z0 z' (fun _ => 0) ∧ it1 (lX4_spread_2 J) FU z (nI 0) = J z' := by
    intro J
    refine it1_up (Q := fun o => ∃ z', SW Z0 z' (fun _ => 0) ∧ o = J z') (N := 3) (fun k z => (∀ g, g ≠ 57 → z g = Z0 g) ∧ ∀ x, x < k → z 57 x = nI 0) ?_ ?_ (F := FU) (FU_lt (by omega)) ⟨hz, fun x hx => absurd hx (Nat.not_lt_zero _)⟩
    · rintro kk k z hk ⟨h1, h2⟩
      refine ⟨zset z 57 k (nI 0), ?_, fun g hg => by rw [zs_ne hg]; exact h1 g hg, fun x hx => ?_⟩
      · unfold lX4_spread_2
        ((repeat (first | (with_reducible refine Eq.trans njE ?_; (try dsimp only)) | ((conv => lhs; arg 1; simp (maxSteps := 1000000) (disch := omega) only [nmE, li_0, li_1, li_2, li_3, li_4, li_5, li_6, li_7, li_8, li_9, li_10, li_11, li_12, li_13, li_14, li_15, li_16, li_17, li_18, li_19, li_20, li_21, li_22, li_23, li_24, li_25, li_26, li_27, li_28, li_29, li_30, li_31, li_32, li_33, li_34, li_35, li_36, li_37, li_38, li_39, li_40, li_41, li_42, li_43, li_44, li_45, li_48, li_57, li_59, li_61, li_63, li_64, li_65, li_72, li_90, li_97, li_99, li_101, li_102, li_103, li_104, li_105, li_108, li_109, li_111, li_114, li_115, li_116, li_117, li_118, li_120, li_121, li_122, li_216, li_240, li_255, li_256, li_380, li_400, li_480, li_511, li_512, li_729, li_1000, li_5184, li_10000, li_46656, li_65536, li_99999, li_1000000, ni_add, ni_mul, ni_sub, ni_ix, inb_t, ni_le_t, ni_le_f, ni_lt_t, ni_lt_f, ni_eq_t, ni_eq_f, ni_m1, ni_m1', ni_mn, ni_mn', Nat.add_sub_cancel, Nat.add_zero, zr_ne, zr_ni, zr_eq, gd_t, bd_s, if_true, if_false, Bool.not_true, Bool.not_false, ↓reduceIte, decide_false, decide_true]); (first | with_reducible refine Eq.trans gd_t ?_ | with_reducible refine Eq.trans bd_s ?_ | with_reducible refine Eq.trans bdp_s ?_ | with_reducible refine Eq.trans (if_pos trivial) ?_ | with_reducible refine Eq.trans (if_neg not_false) ?_ | with_reducible refine Eq.trans nmE ?_))));  (try simp (maxSteps := 1000000) (disch := omega) only [nmE, li_0, li_1, li_2, li_3, li_4, li_5, li_6, li_7, li_8, li_9, li_10, li_11, li_12, li_13, li_14, li_15, li_16, li_17, li_18, li_19, li_20, li_21, li_22, li_23, li_24, li_25, li_26, li_27, li_28, li_29, li_30, li_31, li_32, li_33, li_34, li_35, li_36, li_37, li_38, li_39, li_40, li_41, li_42, li_43, li_44, li_45, li_48, li_57, li_59, li_61, li_63, li_64, li_65, li_72, li_90, li_97, li_99, li_101, li_102, li_103, li_104, li_105, li_108, li_109, li_111, li_114, li_115, li_116, li_117, li_118, li_120, li_121, li_122, li_216, li_240, li_255, li_256, li_380, li_400, li_480, li_511, li_512, li_729, li_1000, li_5184, li_10000, li_46656, li_65536, li_99999, li_1000000, ni_add, ni_mul, ni_sub, ni_ix, inb_t, ni_le_t, ni_le_f, ni_lt_t, ni_lt_f, ni_eq_t, ni_eq_f, ni_m1, ni_m1', ni_mn, ni_mn', Nat.add_sub_cancel, Nat.add_zero, zr_ne, zr_ni, zr_eq, gd_t, bd_s, if_true, if_false, Bool.not_true, Bool.not_false, ↓reduceIte, decide_false, decide_true]))
      · by_cases e : x = k
        · subst e; rw [zr_eq]
        · rw [zr_ni e]; exact h2 x (by omega)
    · rintro kk z ⟨h1, h2⟩
      exact ⟨z, ⟨h1, h2⟩, if_pos (by decide)⟩
  have hsum : ∀ (J : zT → Option (Int32 × zT)) z, SW Z0 z (fun _ => 0) → ∃ z', SW Z0 z' (fun x => sp Z0 nw p x) ∧ it2 (lX4_spread_29 J) FU z (nI p) (nI nw - nI 1) = J z' := by
    intro J z hz0
    refine it2_m (Q := fun o => ∃ z', SW Z0 z' (fun x => sp Z0 nw p x) ∧ o = J z') (fun k z x y => ∃ v t, x = nI v ∧ v < 19683 ∧ y = nI k - nI 1 ∧ k ≤ nw ∧ SW Z0 z t ∧ ∀ x, x < 3 → t x + sp Z0 k v x = sp Z0 nw p x) ?_ FU nw z (nI p) (nI nw - nI 1) (FU_lt (by omega)) ⟨p, fun _ => 0, rfl, hp, rfl, Nat.le_refl _, hz0, fun x _ => Nat.zero_add _⟩
    rintro kk k z _ _ ⟨v, t, rfl, hv, rfl, hk, ht, hs⟩
    cases k with
    | zero =>
      refine Or.inl ⟨z, ⟨ht.1, fun x hx => ?_⟩, if_pos (by decide)⟩
      rw [ht.2 x hx]
      exact congrArg nI (hs x hx)
    | succ k =>
      refine Or.inr ⟨k, zset z 57 (v % 3) (nI (t (v % 3) + wa Z0 k)), nI (v / 3), nI k - nI 1, by omega, ?_, v / 3, upn t (v % 3) (t (v % 3) + wa Z0 k), rfl, by omega, rfl, by omega, ⟨fun g hg => by rw [zs_ne hg]; exact ht.1 g hg, fun x hx => ?_⟩, fun x hx => ?_⟩
      · have e56 : z 56 k = nI (wa Z0 k) := by rw [ht.1 56 (by omega)]; exact (wa_k hB k).2
        have e57 := ht.2 (v % 3) (by omega)
        have es : nI k + (-1 : Int32) = nI k - nI 1 := by rw [Int32.sub_eq_add_neg]; rfl
        rw [ni_sub (show 1 ≤ k + 1 by omega), Nat.add_sub_cancel]
        unfold lX4_spread_29
        rw [if_neg (ni_nneg (show k < 2147483648 by omega)), show jr (nI v) (3 : Int32) = nI (v % 3) from ni_rem (d := 3) (by omega) (by omega) (by omega), gd_of (inb_t (n := 3) (by omega) (by omega)), gd_of (inb_t (n := 9) (by omega) (by omega)), ni_ix (show v % 3 < 2147483648 by omega), ni_ix (show k < 2147483648 by omega), e57, e56, ni_add, nmE, nmE, nmE, show nI v / (3 : Int32) = nI (v / 3) from ni_div (d := 3) (by omega) (by omega) (by omega), es]
      · by_cases e : x = v % 3
        · subst e; rw [zr_eq, upn_e]
        · rw [zr_ni e, upn_n e]; exact ht.2 x hx
      · have h := hs x hx
        have h' : t x + ((if v % 3 = x then wa Z0 k else 0) + sp Z0 k (v / 3) x) = sp Z0 nw p x := h
        by_cases e : x = v % 3
        · subst e
          rw [upn_e]
          rw [if_pos rfl] at h'
          omega
        · rw [upn_n e]
          rw [if_neg (Ne.symm e)] at h'
          omega
  unfold fX4_spread
  rw [njE, njE]
  obtain ⟨z1, c1, c2⟩ := hclr (fun (Z20 : zT) =>
    nm ((Z20 55 0) - (1 : Int32)) fun (x3_1 : Int32) =>
    nj (fun (Z66 : zT) =>
      gd (inb (0 : Int32) 3) <|
      gd (inb (1 : Int32) 3) <|
      nj (fun (t0_96 : Int32) =>
        nj (fun (t0_127 : Int32) =>
          gd (inb (2 : Int32) 3) <|
          nj (fun (t0_149 : Int32) =>
            nj (fun (t1_173 : Int32) =>
              some ((t0_149 - t1_173), Z66)) fun j173 =>
            if t0_127 ≤ (Z66 57 (ix (2 : Int32))) then (
              j173 t0_127)
            else (
              j173 (Z66 57 (ix (2 : Int32))))) fun j149 =>
          if (Z66 57 (ix (2 : Int32))) ≤ t0_96 then (
            j149 t0_96)
          else (
            j149 (Z66 57 (ix (2 : Int32))))) fun j127 =>
        if (Z66 57 (ix (1 : Int32))) ≤ (Z66 57 (ix (0 : Int32))) then (
          j127 (Z66 57 (ix (1 : Int32))))
        else (
          j127 (Z66 57 (ix (0 : Int32))))) fun j96 =>
      if (Z66 57 (ix (0 : Int32))) ≤ (Z66 57 (ix (1 : Int32))) then (
        j96 (Z66 57 (ix (1 : Int32))))
      else (
        j96 (Z66 57 (ix (0 : Int32))))) fun j66 =>
    nj (it2 (lX4_spread_29 j66) FU) fun k29 =>
    k29 Z20 (nI p) x3_1)
  obtain ⟨z2, d1, d2⟩ := hsum (fun (Z66 : zT) =>
      gd (inb (0 : Int32) 3) <|
      gd (inb (1 : Int32) 3) <|
      nj (fun (t0_96 : Int32) =>
        nj (fun (t0_127 : Int32) =>
          gd (inb (2 : Int32) 3) <|
          nj (fun (t0_149 : Int32) =>
            nj (fun (t1_173 : Int32) =>
              some ((t0_149 - t1_173), Z66)) fun j173 =>
            if t0_127 ≤ (Z66 57 (ix (2 : Int32))) then (
              j173 t0_127)
            else (
              j173 (Z66 57 (ix (2 : Int32))))) fun j149 =>
          if (Z66 57 (ix (2 : Int32))) ≤ t0_96 then (
            j149 t0_96)
          else (
            j149 (Z66 57 (ix (2 : Int32))))) fun j127 =>
        if (Z66 57 (ix (1 : Int32))) ≤ (Z66 57 (ix (0 : Int32))) then (
          j127 (Z66 57 (ix (1 : Int32))))
        else (
          j127 (Z66 57 (ix (0 : Int32))))) fun j96 =>
      if (Z66 57 (ix (0 : Int32))) ≤ (Z66 57 (ix (1 : Int32))) then (
        j96 (Z66 57 (ix (1 : Int32))))
      else (
        j96 (Z66 57 (ix (0 : Int32))))) z1 c1
  refine ⟨z2, d1.1, ?_⟩
  refine Eq.trans c2 ?_
  rw [c1.1 55 (by omega), h55, nmE, njE, njE]
  refine Eq.trans d2 ?_
  have e0 : z2 57 0 = nI (sp Z0 nw p 0) := d1.2 0 (by omega)
  have e1 : z2 57 1 = nI (sp Z0 nw p 1) := d1.2 1 (by omega)
  have e2 : z2 57 2 = nI (sp Z0 nw p 2) := d1.2 2 (by omega)
  have b0 := sp_le hB nw p 0
  have b1 := sp_le hB nw p 1
  have b2 := sp_le hB nw p 2
  unfold uu
  generalize sp Z0 nw p 0 = s0 at e0 b0 ⊢
  generalize sp Z0 nw p 1 = s1 at e1 b1 ⊢
  generalize sp Z0 nw p 2 = s2 at e2 b2 ⊢
  have hfin : ∀ x, x = mx3 s0 s1 s2 - mn3 s0 s1 s2 → (some (nI x, z2) : Option (Int32 × zT)) = some (nI (mx3 s0 s1 s2 - mn3 s0 s1 s2), z2) := fun x h => by rw [h]
  rcases Nat.lt_trichotomy s0 s1 with c1 | c1 | c1 <;> rcases Nat.lt_trichotomy s1 s2 with c2 | c2 | c2 <;> rcases Nat.lt_trichotomy s0 s2 with c3 | c3 | c3 <;> first
    | (exfalso; omega)
    | (((repeat (first | (with_reducible refine Eq.trans njE ?_; (try dsimp only)) | ((conv => lhs; arg 1; simp (maxSteps := 1000000) (disch := omega) only [e0, e1, e2, li_0, li_1, li_2, li_3, li_4, li_5, li_6, li_7, li_8, li_9, li_10, li_11, li_12, li_13, li_14, li_15, li_16, li_17, li_18, li_19, li_20, li_21, li_22, li_23, li_24, li_25, li_26, li_27, li_28, li_29, li_30, li_31, li_32, li_33, li_34, li_35, li_36, li_37, li_38, li_39, li_40, li_41, li_42, li_43, li_44, li_45, li_48, li_57, li_59, li_61, li_63, li_64, li_65, li_72, li_90, li_97, li_99, li_101, li_102, li_103, li_104, li_105, li_108, li_109, li_111, li_114, li_115, li_116, li_117, li_118, li_120, li_121, li_122, li_216, li_240, li_255, li_256, li_380, li_400, li_480, li_511, li_512, li_729, li_1000, li_5184, li_10000, li_46656, li_65536, li_99999, li_1000000, ni_add, ni_mul, ni_sub, ni_ix, inb_t, ni_le_t, ni_le_f, ni_lt_t, ni_lt_f, ni_eq_t, ni_eq_f, ni_m1, ni_m1', ni_mn, ni_mn', Nat.add_sub_cancel, Nat.add_zero, zr_ne, zr_ni, zr_eq, gd_t, bd_s, if_true, if_false, Bool.not_true, Bool.not_false, ↓reduceIte, decide_false, decide_true]); (first | with_reducible refine Eq.trans gd_t ?_ | with_reducible refine Eq.trans bd_s ?_ | with_reducible refine Eq.trans bdp_s ?_ | with_reducible refine Eq.trans (if_pos trivial) ?_ | with_reducible refine Eq.trans (if_neg not_false) ?_ | with_reducible refine Eq.trans nmE ?_))));  (try simp (maxSteps := 1000000) (disch := omega) only [e0, e1, e2, li_0, li_1, li_2, li_3, li_4, li_5, li_6, li_7, li_8, li_9, li_10, li_11, li_12, li_13, li_14, li_15, li_16, li_17, li_18, li_19, li_20, li_21, li_22, li_23, li_24, li_25, li_26, li_27, li_28, li_29, li_30, li_31, li_32, li_33, li_34, li_35, li_36, li_37, li_38, li_39, li_40, li_41, li_42, li_43, li_44, li_45, li_48, li_57, li_59, li_61, li_63, li_64, li_65, li_72, li_90, li_97, li_99, li_101, li_102, li_103, li_104, li_105, li_108, li_109, li_111, li_114, li_115, li_116, li_117, li_118, li_120, li_121, li_122, li_216, li_240, li_255, li_256, li_380, li_400, li_480, li_511, li_512, li_729, li_1000, li_5184, li_10000, li_46656, li_65536, li_99999, li_1000000, ni_add, ni_mul, ni_sub, ni_ix, inb_t, ni_le_t, ni_le_f, ni_lt_t, ni_lt_f, ni_eq_t, ni_eq_f, ni_m1, ni_m1', ni_mn, ni_mn', Nat.add_sub_cancel, Nat.add_zero, zr_ne, zr_ni, zr_eq, gd_t, bd_s, if_true, if_false, Bool.not_true, Bool.not_false, ↓reduceIte, decide_false, decide_true])); refine hfin _ ?_; unfold mx3 mn3; (repeat' split) <;> omega)
theorem m_ways {Z0 z : zT} {nw : Nat} {J : Int32 → Option (Int32 × zT)} (h55 : z 55 0 = nI nw) (hw : nw ≤ 9) : it1 (lX4_watches_32 z J) FU (nI 1) (nI 0) = J (nI (3 ^ nw)) := by
  refine it1_up (Q := fun o => o = J (nI (3 ^ nw))) (N := nw) (fun k x => x = nI (3 ^ k)) ?_ ?_ (F := FU) (FU_lt (by omega)) rfl
  · rintro kk k _ hk rfl
    refine ⟨_, ?_, rfl⟩
    unfold lX4_watches_32
    rw [if_neg (by rw [h55]; exact nI_ge hk (by omega)), nmE, nmE, show (3 : Int32) * nI (3 ^ k) = nI (3 * 3 ^ k) from ni_mul 3 _, show nI k + (1 : Int32) = nI (k + 1) from nI_1 k, Nat.pow_succ, Nat.mul_comm]
  · rintro kk _ rfl
    unfold lX4_watches_32
    rw [if_pos (by rw [h55]; exact nI_le (Nat.le_refl _) (by omega))]
theorem p3_le {k : Nat} (h : k ≤ 9) : 3 ^ k ≤ 19683 := Nat.pow_le_pow_right (n := 3) (by omega) h
theorem m_best {Z0 z : zT} {nw : Nat} {J : zT → Int32 → Int32 → Option (Int32 × zT)} (hB : MB Z0) (h55 : Z0 55 0 = nI nw) (hw : nw ≤ 9) (hz : ∀ g, g ≠ 57 → z g = Z0 g) : ∃ z', (∀ g, g ≠ 57 → z' g = Z0 g) ∧ it3 (lX4_watches_60 (nI (3 ^ nw)) J) FU z (nI 0) (nI 1000000) (nI 0) = J z' (nI (agm (uu Z0 nw) (3 ^ nw - 1))) (nI (uu Z0 nw (agm (uu Z0 nw) (3 ^ nw - 1)))) := by
  have hN := p3_le hw
  have hN0 : 0 < 3 ^ nw := Nat.pow_pos (by omega)
  refine it3_up (Q := fun o => ∃ z', (∀ g, g ≠ 57 → z' g = Z0 g) ∧ o = J z' (nI (agm (uu Z0 nw) (3 ^ nw - 1))) (nI (uu Z0 nw (agm (uu Z0 nw) (3 ^ nw - 1))))) (N := 3 ^ nw) (fun k z x y => (∀ g, g ≠ 57 → z g = Z0 g) ∧ (k = 0 → x = nI 0 ∧ y = nI 1000000) ∧ (0 < k → x = nI (agm (uu Z0 nw) (k - 1)) ∧ y = nI (uu Z0 nw (agm (uu Z0 nw) (k - 1))))) ?_ ?_ (F := FU) (FU_lt (by omega)) ⟨hz, fun _ => ⟨rfl, rfl⟩, fun h => absurd h (by omega)⟩
  · rintro kk k z x y hk ⟨hz, h0, h1⟩
    obtain ⟨z', g1, g2⟩ := m_spread hB h55 hw (show k < 19683 by omega) hz
    have hu := uu_le hB hw k
    have hk1 : nI k + (1 : Int32) = nI (k + 1) := nI_1 k
    have hst : lX4_watches_60 (nI (3 ^ nw)) J kk z x y (nI k) = if nI (uu Z0 nw k) < y then kk z' (nI k) (nI (uu Z0 nw k)) (nI (k + 1)) else kk z' x y (nI (k + 1)) := by
      unfold lX4_watches_60
      rw [if_neg (nI_ge hk (by omega)), g2, bdp_s, njE]
      dsimp only
      simp only [nmE, hk1]
    rcases Nat.eq_zero_or_pos k with rfl | hp
    · obtain ⟨rfl, rfl⟩ := h0 rfl
      refine ⟨z', nI 0, nI (uu Z0 nw 0), ?_, g1, fun h => absurd h (by omega), fun _ => ⟨rfl, rfl⟩⟩
      rw [hst, if_pos (nI_lt (by omega) (by omega))]
    · obtain ⟨rfl, rfl⟩ := h1 hp
      obtain ⟨k, rfl⟩ : ∃ q, k = q + 1 := ⟨k - 1, by omega⟩
      rw [Nat.add_sub_cancel] at hst ⊢
      have hu2 := uu_le hB hw (agm (uu Z0 nw) k)
      have ha : agm (uu Z0 nw) (k + 1) = if uu Z0 nw (k + 1) < uu Z0 nw (agm (uu Z0 nw) k) then k + 1 else agm (uu Z0 nw) k := rfl
      by_cases hc : uu Z0 nw (k + 1) < uu Z0 nw (agm (uu Z0 nw) k)
      · rw [if_pos hc] at ha
        refine ⟨z', nI (k + 1), nI (uu Z0 nw (k + 1)), ?_, g1, fun h => absurd h (by omega), fun _ => ?_⟩
        · rw [hst, if_pos (nI_lt hc (by omega))]
        · rw [Nat.add_sub_cancel, ha]; exact ⟨rfl, rfl⟩
      · rw [if_neg hc] at ha
        refine ⟨z', nI (agm (uu Z0 nw) k), nI (uu Z0 nw (agm (uu Z0 nw) k)), ?_, g1, fun h => absurd h (by omega), fun _ => ?_⟩
        · rw [hst, if_neg (nI_nlt (by omega) (by omega))]
        · rw [Nat.add_sub_cancel, ha]; exact ⟨rfl, rfl⟩
  · rintro kk z x y ⟨hz, h0, h1⟩
    obtain ⟨rfl, rfl⟩ := h1 hN0
    refine ⟨z, hz, ?_⟩
    unfold lX4_watches_60
    rw [if_pos (nI_le (Nat.le_refl _) (by omega))]
theorem m_watcher {z : zT} {nw p j : Nat} (h55 : z 55 0 = nI nw) (hw : nw ≤ 9) (hp : p < 19683) (hj : j < nw) : fX4_watcher z (nI p) (nI j) = some (nI (dg nw p j)) := by
  unfold fX4_watcher
  rw [h55, nmE, njE, njE, show nI nw - (1 : Int32) = nI (nw - 1) from ni_sub (b := 1) (by omega)]
  refine it1_m (Q := fun o => o = some (nI (dg nw p j))) (fun q x y => ∃ v, x = nI v ∧ v < 19683 ∧ y = nI (j + q) ∧ j + q < nw ∧ dg (j + q + 1) v j = dg nw p j) ?_ FU (nw - 1 - j) (nI p) (nI (nw - 1)) (FU_lt (by omega)) ⟨p, rfl, hp, by rw [show j + (nw - 1 - j) = nw - 1 from by omega], by omega, by rw [show j + (nw - 1 - j) + 1 = nw from by omega]⟩
  rintro kk q _ _ ⟨v, rfl, hv, rfl, hq, hd⟩
  unfold lX4_watcher_10
  cases q with
  | zero =>
    refine Or.inl ?_
    rw [Nat.add_zero] at hd ⊢
    rw [if_pos (nI_le (Nat.le_refl _) (by omega))]
    dsimp only
    rw [show jr (nI v) (3 : Int32) = nI (v % 3) from ni_rem (d := 3) (by omega) (by omega) (by omega), ← hd]
    refine congrArg (fun x => some (nI x)) ?_
    exact (if_pos rfl).symm
  | succ q =>
    refine Or.inr ⟨q, nI (v / 3), nI (j + q), by omega, ?_, v / 3, rfl, by omega, rfl, by omega, ?_⟩
    · rw [if_neg (nI_ge (by omega) (by omega)), nmE, nmE, show nI v / (3 : Int32) = nI (v / 3) from ni_div (d := 3) (by omega) (by omega) (by omega), ni_dec (by omega), show j + (q + 1) - 1 = j + q from by omega]
    · rw [← hd]
      exact (if_neg (show ¬ j = j + (q + 1) by omega)).symm
