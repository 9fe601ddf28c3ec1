/-! LAYER 2, numbers: Int32 as nI of naturals -/
theorem ni_lt {a b : Nat} (ha : a < 2 ^ 31) (hb : b < 2 ^ 31) : nI a < nI b ↔ a < b := nI_ltI ha hb
theorem ni_le {a b : Nat} (ha : a < 2 ^ 31) (hb : b < 2 ^ 31) : nI a ≤ nI b ↔ a ≤ b := nI_leI ha hb
theorem ni_inj {a b : Nat} (ha : a < 2 ^ 31) (hb : b < 2 ^ 31) : nI a = nI b ↔ a = b := nI_eq ha hb
theorem ni_add (a b : Nat) : nI a + nI b = nI (a + b) := nI_add a b
theorem ni_mul (a b : Nat) : nI a * nI b = nI (a * b) := pk_mul a b
theorem ni_sub {a b : Nat} (h : b ≤ a) : nI a - nI b = nI (a - b) := pk_sub h
theorem ni_dec {a : Nat} (h : 0 < a) : nI a + (-1) = nI (a - 1) := by
  obtain ⟨k, rfl⟩ : ∃ k, a = k + 1 := ⟨a - 1, by omega⟩
  exact pk_m1 k
theorem ni_ix {a : Nat} (ha : a < 2147483648) : ix (nI a) = a := nI_clamp ha
theorem ni_nneg {a : Nat} (ha : a < 2147483648) : ¬ nI a < 0 := nI_pos ha
theorem ni_inb {a n : Nat} (ha : a < 2147483648) : inb (nI a) n = decide (a < n) := by
  simp [inb, ni_nneg ha, ni_ix ha]
theorem inb_t {a n : Nat} (h : a < n) (ha : a < 2147483648) : inb (nI a) n = true := by
  rw [ni_inb ha]; exact decide_eq_true h
theorem ni_le_t {a b : Nat} (h : a ≤ b) (hb : b < 2147483648) : (nI a ≤ nI b) = True := eq_true (nI_le h hb)
theorem ni_le_f {a b : Nat} (h : b < a) (hb : a < 2147483648) : (nI a ≤ nI b) = False := eq_false (nI_ge h hb)
theorem ni_lt_t {a b : Nat} (h : a < b) (hb : b < 2147483648) : (nI a < nI b) = True := eq_true (nI_lt h hb)
theorem ni_lt_f {a b : Nat} (h : b ≤ a) (hb : a < 2147483648) : (nI a < nI b) = False := eq_false (nI_nlt h hb)
theorem ni_eq_f {a b : Nat} (h : a ≠ b) (ha : a < 2147483648) (hb : b < 2147483648) : (nI a = nI b) = False := eq_false (fun e => h ((nI_eq ha hb).mp e))
theorem ni_eq_t {a b : Nat} (h : a = b) : (nI a = nI b) = True := by rw [h]; exact eq_self _
theorem ni_m1 {a : Nat} (ha : a < 2147483648) : (nI a = (-1 : Int32)) = False := by
  refine eq_false fun e => ?_
  have h1 := congrArg Int32.toInt e
  rw [nI_toInt ha, show (-1 : Int32).toInt = -1 from by decide] at h1
  omega
theorem ni_mn {a : Nat} (ha : a < 2147483648) : (nI a = -nI 1) = False := ni_m1 ha
theorem ni_mn' : (-nI 1 = -nI 1) = True := eq_self _
theorem ni_m1' {a : Nat} (ha : a < 2147483648) : ((-1 : Int32) = nI a) = False := by
  refine eq_false fun e => ?_
  have h1 := congrArg Int32.toInt e
  rw [nI_toInt ha, show (-1 : Int32).toInt = -1 from by decide] at h1
  omega
theorem ni_div {a d : Nat} (ha : a < 2147483648) (h0 : 0 < d) (hd : d < 2147483648) : nI a / nI d = nI (a / d) := pk_div ha h0 hd
theorem ni_rem {a d : Nat} (ha : a < 2147483648) (h0 : 0 < d) (hd : d < 2147483648) : jr (nI a) (nI d) = nI (a % d) := pk_rem ha h0 hd
theorem ni_and (a b : Nat) : nI a &&& nI b = nI (a &&& b) := Int32.toBitVec_inj.mp (by
  simp only [nI, Int32.toBitVec_and, Int32.toBitVec_ofNat', BitVec.ofNat_and])
theorem ni_or (a b : Nat) : nI a ||| nI b = nI (a ||| b) := Int32.toBitVec_inj.mp (by
  simp only [nI, Int32.toBitVec_or, Int32.toBitVec_ofNat', BitVec.ofNat_or])
theorem ni_s1 : ∀ n : Fin 32, ((nI n.1 &&& 31).toBitVec.smod 32).toNat = n.1 := by decide +kernel
theorem ni_s2 : ∀ n : Fin 32, (((nI n.1).toUInt32 &&& Int32.toUInt32 31).toBitVec % 32).toNat = n.1 := by decide +kernel
theorem ni_shl {a k : Nat} (hk : k < 32) (h : a * 2 ^ k < 4294967296) : js (nI a) (nI k) = nI (a * 2 ^ k) := pk_shlN _ k (ni_s1 ⟨k, hk⟩) h
theorem ni_shr {a k : Nat} (hk : k < 32) (h : a < 2147483648) : jsr (nI a) (nI k) = nI (a / 2 ^ k) := pk_shrN h _ k (ni_s1 ⟨k, hk⟩)
theorem ni_ushr {a k : Nat} (hk : k < 32) (h : a < 4294967296) : jur (nI a) (nI k) = nI (a / 2 ^ k) := pk_ushrN h _ k (ni_s2 ⟨k, hk⟩)
theorem inb_of {x : Int32} {n : Nat} (h : inb x n = true) (hn : n < 2147483648) : ∃ j : Nat, j < n ∧ x = nI j := vp_in_of (inb_o h) hn
theorem inb_c (x : Int32) (n : Nat) (hn : n < 2147483648) : (∃ j : Nat, j < n ∧ x = nI j) ∨ inb x n = false := by
  cases h : inb x n
  · exact Or.inr rfl
  · exact Or.inl (inb_of h hn)
theorem inb_b {x : Int32} {n : Nat} : inb x n = false ↔ (x < 0 ∨ n ≤ ix x) := by
  simp only [inb, Bool.and_eq_false_iff, decide_eq_false_iff_not, Decidable.not_not, Nat.not_lt]
/-- what is not negative -/
theorem nn_of {x : Int32} (h : ¬ x < 0) : ∃ j : Nat, j < 2147483648 ∧ x = nI j := nI_of h
theorem neg_lt {x : Int32} {a : Nat} (h : x < 0) (ha : a < 2147483648) : (nI a ≤ x) = False := by
  refine eq_false fun e => ?_
  rw [Int32.le_iff_toInt_le, nI_toInt ha] at e
  rw [Int32.lt_iff_toInt_lt] at h
  have : (0 : Int32).toInt = 0 := rfl
  omega
/-- x between naturals -/
theorem lt_m1 {x : Int32} {m : Nat} (hm : m < 2147483648) : (nI m - nI 1 < x) ↔ (nI m ≤ x) := by
  rcases Nat.eq_zero_or_pos m with rfl | h0
  · rw [show nI 0 - nI 1 = (-1 : Int32) from rfl, Int32.lt_iff_toInt_lt, Int32.le_iff_toInt_le, show (-1 : Int32).toInt = -1 from by decide, show (nI 0).toInt = 0 from rfl]
    omega
  · rw [ni_sub h0, Int32.lt_iff_toInt_lt, Int32.le_iff_toInt_le, nI_toInt (by omega), nI_toInt hm]
    omega
theorem not_inb {x : Int32} {n : Nat} (h : inb x n = false) (hn : n < 2147483648) : x < 0 ∨ (¬ x < 0 ∧ nI n ≤ x) := by
  rcases inb_b.mp h with k | k
  · exact Or.inl k
  · by_cases h0 : x < 0
    · exact Or.inl h0
    · obtain ⟨j, hj, rfl⟩ := nn_of h0
      rw [ni_ix hj] at k
      exact Or.inr ⟨h0, nI_le k hj⟩
/-- plumbing of options -/
theorem gd_t {α : Type} {k : Option α} : gd true k = k := Eq.trans (Eq.refl _) (Eq.refl _)
theorem gd_f {α : Type} {k : Option α} : gd false k = none := Eq.trans (Eq.refl _) (Eq.refl _)
theorem bd_s {α β : Type} {x : α} {f : α → Option β} : bd (some x) f = f x := Eq.trans (Eq.refl _) (Eq.refl _)
theorem bdp_s {α γ β : Type} {x : α} {y : γ} {f : α → γ → Option β} : bdp (some (x, y)) f = f x y := Eq.trans (Eq.refl _) (Eq.refl _)
theorem bd4_s {α γ δ ε β : Type} {x : α} {y : γ} {z : δ} {u : ε} {f : α → γ → δ → ε → Option β} : bd4 (some (x, y, z, u)) f = f x y z u := Eq.trans (Eq.refl _) (Eq.refl _)
theorem bd5_s {α γ δ ε ζ β : Type} {x : α} {y : γ} {z : δ} {u : ε} {q : ζ} {f : α → γ → δ → ε → ζ → Option β} : bd5 (some (x, y, z, u, q)) f = f x y z u q := Eq.trans (Eq.refl _) (Eq.refl _)
theorem nmE {α β : Type} {v : α} {f : α → β} : nm v f = f v := Eq.trans (Eq.refl _) (Eq.refl _)
theorem njE {α β : Type} {v : α} {f : α → β} : nj v f = f v := Eq.trans (Eq.refl _) (Eq.refl _)
theorem zr_ne {Z : zT} {k k' i i' : Nat} {v : Int32} (h : k' ≠ k) : zset Z k i v k' i' = Z k' i' := if_neg fun e => h e.1
theorem zr_ni {Z : zT} {k i i' : Nat} {v : Int32} (h : i' ≠ i) : zset Z k i v k i' = Z k i' := if_neg fun e => h e.2
theorem zr_eq {Z : zT} {k i : Nat} {v : Int32} : zset Z k i v k i = v := if_pos ⟨rfl, rfl⟩
theorem zr_e' {Z : zT} {k i i' : Nat} {v : Int32} (h : i' = i) : zset Z k i v k i' = v := if_pos ⟨rfl, h⟩
theorem zs_ne {Z : zT} {k k' i : Nat} {v : Int32} (h : k' ≠ k) : zset Z k i v k' = Z k' := by
  funext j; exact zr_ne h
theorem zs_comm {Z : zT} {k i k' i' : Nat} {v v' : Int32} (h : k ≠ k' ∨ i ≠ i') : zset (zset Z k i v) k' i' v' = zset (zset Z k' i' v') k i v := by
  funext x j
  unfold zset
  by_cases e : x = k ∧ j = i
  · by_cases e' : x = k' ∧ j = i'
    · exfalso; rcases h with h | h
      · exact h (e.1.symm.trans e'.1)
      · exact h (e.2.symm.trans e'.2)
    · rw [if_pos e, if_neg e', if_pos e]
  · by_cases e' : x = k' ∧ j = i'
    · simp only [if_neg e, if_pos e']
    · rw [if_neg e, if_neg e', if_neg e]
theorem zs_id {Z : zT} {k i : Nat} : zset Z k i (Z k i) = Z := by
  funext x j
  unfold zset
  by_cases e : x = k ∧ j = i
  · rw [if_pos e, e.1, e.2]
  · rw [if_neg e]
/-- loops, by a measure -/
theorem it0_m {ρ σ : Type} {b : (σ → Option ρ) → σ → Option ρ} {Q : Option ρ → Prop} (Inv : Nat → σ → Prop) (h : ∀ k m s, Inv m s → Q (b k s) ∨ ∃ m' s', m' < m ∧ b k s = k s' ∧ Inv m' s') : ∀ F m s, m < F → Inv m s → Q (it0 b F s) := by
  intro F
  induction F with
  | zero => intro m s hm; exact absurd hm (Nat.not_lt_zero _)
  | succ F ih =>
    intro m s hm hi
    rcases h (it0 b F) m s hi with q | ⟨m', s', h1, h2, h3⟩
    · exact q
    · show Q (b (it0 b F) s)
      rw [h2]
      exact ih m' s' (by omega) h3
theorem it1_m {ρ σ A : Type} {b : (σ → A → Option ρ) → σ → A → Option ρ} {Q : Option ρ → Prop} (Inv : Nat → σ → A → Prop) (h : ∀ k m s x, Inv m s x → Q (b k s x) ∨ ∃ m' s' x', m' < m ∧ b k s x = k s' x' ∧ Inv m' s' x') : ∀ F m s x, m < F → Inv m s x → Q (it1 b F s x) := by
  intro F
  induction F with
  | zero => intro m s x hm; exact absurd hm (Nat.not_lt_zero _)
  | succ F ih =>
    intro m s x hm hi
    rcases h (it1 b F) m s x hi with q | ⟨m', s', x', h1, h2, h3⟩
    · exact q
    · show Q (b (it1 b F) s x)
      rw [h2]
      exact ih m' s' x' (by omega) h3
theorem it2_m {ρ σ A B : Type} {b : (σ → A → B → Option ρ) → σ → A → B → Option ρ} {Q : Option ρ → Prop} (Inv : Nat → σ → A → B → Prop) (h : ∀ k m s x y, Inv m s x y → Q (b k s x y) ∨ ∃ m' s' x' y', m' < m ∧ b k s x y = k s' x' y' ∧ Inv m' s' x' y') : ∀ F m s x y, m < F → Inv m s x y → Q (it2 b F s x y) := by
  intro F
  induction F with
  | zero => intro m s x y hm; exact absurd hm (Nat.not_lt_zero _)
  | succ F ih =>
    intro m s x y hm hi
    rcases h (it2 b F) m s x y hi with q | ⟨m', s', x', y', h1, h2, h3⟩
    · exact q
    · show Q (b (it2 b F) s x y)
      rw [h2]
      exact ih m' s' x' y' (by omega) h3
theorem it3_m {ρ σ A B C : Type} {b : (σ → A → B → C → Option ρ) → σ → A → B → C → Option ρ} {Q : Option ρ → Prop} (Inv : Nat → σ → A → B → C → Prop) (h : ∀ k m s x y z, Inv m s x y z → Q (b k s x y z) ∨ ∃ m' s' x' y' z', m' < m ∧ b k s x y z = k s' x' y' z' ∧ Inv m' s' x' y' z') : ∀ F m s x y z, m < F → Inv m s x y z → Q (it3 b F s x y z) := by
  intro F
  induction F with
  | zero => intro m s x y z hm; exact absurd hm (Nat.not_lt_zero _)
  | succ F ih =>
    intro m s x y z hm hi
    rcases h (it3 b F) m s x y z hi with q | ⟨m', s', x', y', z', h1, h2, h3⟩
    · exact q
    · show Q (b (it3 b F) s x y z)
      rw [h2]
      exact ih m' s' x' y' z' (by omega) h3
theorem it4_m {ρ σ A B C D : Type} {b : (σ → A → B → C → D → Option ρ) → σ → A → B → C → D → Option ρ} {Q : Option ρ → Prop} (Inv : Nat → σ → A → B → C → D → Prop) (h : ∀ k m s x y z u, Inv m s x y z u → Q (b k s x y z u) ∨ ∃ m' s' x' y' z' u', m' < m ∧ b k s x y z u = k s' x' y' z' u' ∧ Inv m' s' x' y' z' u') : ∀ F m s x y z u, m < F → Inv m s x y z u → Q (it4 b F s x y z u) := by
  intro F
  induction F with
  | zero => intro m s x y z u hm; exact absurd hm (Nat.not_lt_zero _)
  | succ F ih =>
    intro m s x y z u hm hi
    rcases h (it4 b F) m s x y z u hi with q | ⟨m', s', x', y', z', u', h1, h2, h3⟩
    · exact q
    · show Q (b (it4 b F) s x y z u)
      rw [h2]
      exact ih m' s' x' y' z' u' (by omega) h3
/-- counting loops that go on to their end: an invariant by the count -/
theorem it1_up {ρ σ : Type} {b : (σ → Int32 → Option ρ) → σ → Int32 → Option ρ} {Q : Option ρ → Prop} {N : Nat} (Inv : Nat → σ → Prop) (hs : ∀ k i s, i < N → Inv i s → ∃ s', b k s (nI i) = k s' (nI (i + 1)) ∧ Inv (i + 1) s') (he : ∀ k s, Inv N s → Q (b k s (nI N))) {F : Nat} {s : σ} (hF : N < F) (h0 : Inv 0 s) : Q (it1 b F s (nI 0)) := by
  refine it1_m (fun m s x => ∃ i, x = nI i ∧ i + m = N ∧ Inv i s) ?_ F N s (nI 0) hF ⟨0, rfl, by omega, h0⟩
  rintro k m s x ⟨i, rfl, hm, hi⟩
  rcases Nat.eq_zero_or_pos m with rfl | hp
  · obtain rfl : i = N := by omega
    exact Or.inl (he k s hi)
  · obtain ⟨s', h1, h2⟩ := hs k i s (by omega) hi
    exact Or.inr ⟨m - 1, s', nI (i + 1), by omega, h1, i + 1, rfl, by omega, h2⟩
theorem FU_lt {n : Nat} (h : n < 1000000000000) : n < FU := h
