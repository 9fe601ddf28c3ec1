/-! LAYER 2: sets: ones, what is gathered by or, complements -/
def pcn : Nat → Nat → Nat
  | 0, _ => 0
  | k + 1, x => pcn k x + x / 2 ^ k % 2
def pc (x : Nat) : Nat := pcn 12 x
theorem bc_k : ∀ x : Fin 64, ∀ y : Fin 64, fJ13_bitCount (nI (64 * x.1 + y.1)) = some (nI (pc (64 * x.1 + y.1))) := by decide +kernel
theorem low_k : ∀ x : Fin 64, ∀ y : Fin 64, 64 * x.1 + y.1 ≠ 0 → pc ((64 * x.1 + y.1) &&& (64 * x.1 + y.1 - 1)) + 1 = pc (64 * x.1 + y.1) := by decide +kernel
theorem full_kk : ∀ m : Fin 5, ∀ x : Fin 64, ∀ y : Fin 64, 64 * x.1 + y.1 < 2 ^ (3 * m.1) - 1 → pc (64 * x.1 + y.1) < pc (2 ^ (3 * m.1) - 1) := by decide +kernel
theorem low_s {s : Nat} (hs : s < 4096) (h0 : s ≠ 0) : pc (s &&& (s - 1)) + 1 = pc s := by
  have h := low_k ⟨s / 64, by omega⟩ ⟨s % 64, by omega⟩
  have e : 64 * (s / 64) + s % 64 = s := by omega
  dsimp only at h
  rw [e] at h
  exact h h0
theorem full_k {m s : Nat} (hm : m < 5) (hs : s < 4096) (h : s < 2 ^ (3 * m) - 1) : pc s < pc (2 ^ (3 * m) - 1) := by
  have g := full_kk ⟨m, hm⟩ ⟨s / 64, by omega⟩ ⟨s % 64, by omega⟩
  have e : 64 * (s / 64) + s % 64 = s := by omega
  dsimp only at g
  rw [e] at g
  exact g h
theorem e_bc {s : Nat} (h : s < 4096) : fJ13_bitCount (nI s) = some (nI (pc s)) := by
  have g := bc_k ⟨s / 64, by omega⟩ ⟨s % 64, by omega⟩
  have e : 64 * (s / 64) + s % 64 = s := by omega
  dsimp only at g
  rw [e] at g
  exact g
theorem pcn_le (k x : Nat) : pcn k x ≤ k := by
  induction k with
  | zero => exact Nat.le_refl _
  | succ k ih =>
    show pcn k x + x / 2 ^ k % 2 ≤ k + 1
    omega
theorem pc_le (x : Nat) : pc x ≤ 12 := pcn_le 12 x
theorem m_ones {Z : zT} {s : Nat} (h : s < 4096) : fX4_ones Z (nI s) = some (nI (pc s)) := by
  unfold fX4_ones
  rw [njE]
  refine it1_m (Q := fun o => o = some (nI (pc s))) (fun q u x => ∃ u' x', u = nI u' ∧ x = nI x' ∧ x' < 4096 ∧ u' + pc x' = pc s ∧ pc x' = q) ?_ FU (pc s) (nI 0) (nI s) (Nat.lt_of_le_of_lt (pc_le s) (FU_lt (by omega))) ⟨0, s, rfl, rfl, h, by omega, rfl⟩
  rintro k q _ _ ⟨u', x', rfl, rfl, h1, h2, h3⟩
  by_cases h0 : x' = 0
  · subst h0
    refine Or.inl ?_
    unfold lX4_ones_4
    rw [if_pos (show nI 0 = (0 : Int32) from rfl), ← h2]
    rfl
  · refine Or.inr ⟨pc (x' &&& (x' - 1)), nI (u' + 1), nI (x' &&& (x' - 1)), ?_, ?_, u' + 1, x' &&& (x' - 1), rfl, rfl, Nat.lt_of_le_of_lt Nat.and_le_left h1, ?_, rfl⟩
    · have := low_s h1 h0
      omega
    · unfold lX4_ones_4
      rw [if_neg (show ¬ nI x' = (0 : Int32) from ni_ne (q := 0) h0 (by omega) (by omega)), nmE, nmE, show nI x' - (1 : Int32) = nI (x' - 1) from ni_sub (b := 1) (by omega), ni_and, show nI u' + (1 : Int32) = nI (u' + 1) from nI_1 u']
    · have := low_s h1 h0
      omega
theorem pcn_and (x y k : Nat) : pcn k (x &&& y) ≤ pcn k x ∧ (pcn k (x &&& y) = pcn k x → ∀ i, i < k → x.testBit i = true → y.testBit i = true) := by
  induction k with
  | zero => exact ⟨Nat.le_refl _, fun _ i hi => absurd hi (Nat.not_lt_zero _)⟩
  | succ k ih =>
    have e1 : (x &&& y) / 2 ^ k % 2 = (x.testBit k && y.testBit k).toNat := by rw [← Nat.toNat_testBit, Nat.testBit_and]
    have e2 : x / 2 ^ k % 2 = (x.testBit k).toNat := (Nat.toNat_testBit ..).symm
    show pcn k (x &&& y) + (x &&& y) / 2 ^ k % 2 ≤ pcn k x + x / 2 ^ k % 2 ∧ (pcn k (x &&& y) + (x &&& y) / 2 ^ k % 2 = pcn k x + x / 2 ^ k % 2 → _)
    rw [e1, e2]
    have h1 : (x.testBit k && y.testBit k).toNat ≤ (x.testBit k).toNat := by cases x.testBit k <;> cases y.testBit k <;> decide
    refine ⟨by have := ih.1; omega, fun h i hi hx => ?_⟩
    have h2 := ih.1
    rcases Nat.lt_or_ge i k with c | c
    · exact ih.2 (by omega) i c hx
    · obtain rfl : i = k := by omega
      have h3 : (x.testBit i && y.testBit i).toNat = (x.testBit i).toNat := by omega
      rw [hx] at h3
      cases hy : y.testBit i
      · rw [hy] at h3; exact absurd h3 (by decide)
      · rfl
/-- what is gathered -/
def orf (c : Nat → Bool) (e : Nat → Nat) : Nat → Nat
  | 0 => 0
  | i + 1 => if c i = true then orf c e i ||| 2 ^ e i else orf c e i
theorem orf_tb {c : Nat → Bool} {e : Nat → Nat} {q : Nat} (i : Nat) : (orf c e i).testBit q = true ↔ ∃ j, j < i ∧ c j = true ∧ e j = q := by
  induction i with
  | zero =>
    show (0 : Nat).testBit q = true ↔ _
    rw [Nat.zero_testBit]
    exact ⟨fun h => absurd h (by decide), fun ⟨j, h, _⟩ => absurd h (Nat.not_lt_zero _)⟩
  | succ i ih =>
    show (if c i = true then orf c e i ||| 2 ^ e i else orf c e i).testBit q = true ↔ _
    by_cases hc : c i = true
    · rw [if_pos hc, Nat.testBit_or, Bool.or_eq_true, ih, Nat.testBit_two_pow, decide_eq_true_eq]
      constructor
      · rintro (⟨j, h1, h2, h3⟩ | h)
        · exact ⟨j, by omega, h2, h3⟩
        · exact ⟨i, by omega, hc, h⟩
      · rintro ⟨j, h1, h2, h3⟩
        by_cases e1 : j = i
        · subst e1; exact Or.inr h3
        · exact Or.inl ⟨j, by omega, h2, h3⟩
    · rw [if_neg hc, ih]
      constructor
      · rintro ⟨j, h1, h2, h3⟩
        exact ⟨j, by omega, h2, h3⟩
      · rintro ⟨j, h1, h2, h3⟩
        have e1 : j ≠ i := by rintro rfl; exact hc h2
        exact ⟨j, by omega, h2, h3⟩
theorem orf_lt {c : Nat → Bool} {e : Nat → Nat} {w : Nat} (i : Nat) (h : ∀ j, j < i → e j < w) : orf c e i < 2 ^ w := by
  induction i with
  | zero => exact Nat.two_pow_pos w
  | succ i ih =>
    have h1 := ih (fun j hj => h j (by omega))
    show (if c i = true then orf c e i ||| 2 ^ e i else orf c e i) < 2 ^ w
    split
    · exact Nat.or_lt_two_pow h1 (Nat.pow_lt_pow_right (by omega) (h i (by omega)))
    · exact h1
/-- all but a set -/
def cm (x : Nat) : Nat := 4294967295 - x
theorem cm_tb {x i : Nat} (hx : x < 4294967296) (hi : i < 32) : (cm x).testBit i = !(x.testBit i) := by
  have := Nat.testBit_two_pow_sub_succ (n := 32) (x := x) hx i
  rw [show 2 ^ 32 - (x + 1) = cm x from by unfold cm; omega, decide_eq_true hi, Bool.true_and] at this
  exact this
theorem ni_cm {x : Nat} (hx : x < 4294967296) : nI x ^^^ (-1 : Int32) = nI (cm x) := by
  apply Int32.toBitVec_inj.mp
  rw [Int32.toBitVec_xor, show (-1 : Int32).toBitVec = BitVec.allOnes 32 from by decide, BitVec.xor_allOnes]
  apply BitVec.eq_of_toNat_eq
  rw [BitVec.toNat_not]
  show 2 ^ 32 - 1 - (BitVec.ofNat 32 x).toNat = (BitVec.ofNat 32 (cm x)).toNat
  rw [BitVec.toNat_ofNat, BitVec.toNat_ofNat, Nat.mod_eq_of_lt hx, Nat.mod_eq_of_lt (show cm x < 2 ^ 32 from by unfold cm; omega)]
  rfl
theorem and0 {x y w : Nat} (hx : x < 2 ^ w) : x &&& y = 0 ↔ ∀ i, i < w → x.testBit i = true → y.testBit i = false := by
  constructor
  · intro h i _ hi
    have h1 : (x &&& y).testBit i = false := by rw [h]; exact Nat.zero_testBit i
    rw [Nat.testBit_and, hi, Bool.true_and] at h1
    exact h1
  · intro h
    apply Nat.eq_of_testBit_eq
    intro i
    rw [Nat.testBit_and, Nat.zero_testBit]
    cases hi : x.testBit i
    · rfl
    · rcases Nat.lt_or_ge i w with c | c
      · rw [h i c hi]; rfl
      · rw [Nat.testBit_lt_two_pow (Nat.lt_of_lt_of_le hx (Nat.pow_le_pow_right (by omega) c))] at hi
        cases hi
theorem andcm {x s w : Nat} (hx : x < 2 ^ w) (hw : w ≤ 32) (hs : s < 4294967296) : x &&& cm s = 0 ↔ ∀ i, i < w → x.testBit i = true → s.testBit i = true := by
  rw [and0 hx]
  constructor
  · intro h i hi h1
    have := h i hi h1
    rw [cm_tb hs (by omega)] at this
    simpa using this
  · intro h i hi h1
    rw [cm_tb hs (by omega), h i hi h1]
    rfl
theorem js_2 {k : Nat} (hk : k < 31) : js (nI 1) (nI k) = nI (2 ^ k) := by
  have h : (2 : Nat) ^ k < 2 ^ 31 := Nat.pow_lt_pow_right (by omega) hk
  rw [ni_shl (by omega) (by omega), Nat.one_mul]
theorem tb_i {a k : Nat} (ha : a < 2147483648) (hk : k < 32) : jsr (nI a) (nI k) &&& nI 1 = if a.testBit k = true then nI 1 else nI 0 := by
  rw [bit_v ha hk]
  by_cases h : a / 2 ^ k % 2 = 1
  · rw [if_pos (by rw [Nat.testBit_eq_decide_div_mod_eq]; exact decide_eq_true h), h]
  · rw [if_neg (by rw [Nat.testBit_eq_decide_div_mod_eq]; exact fun c => h (of_decide_eq_true c)), show a / 2 ^ k % 2 = 0 from by omega]
