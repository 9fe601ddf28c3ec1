/-! LAYER 2: talks: what is left to do (no program) -/
/-- what one three needs: ear, who knows -/
def fm (e k : Nat) : Nat := 2 * (3 - pcn 3 k) - (if k.testBit e = true then 0 else 1)
/-- a mouth is with one who knows -/
def spk (m g k : Nat) : Bool := k.testBit m || k.testBit (3 + g)
def hx (e m f g k : Nat) : Nat := fm e (k % 8) + fm f (k / 8) + (if spk m g k = true then 0 else 1)
theorem fm_mv : ∀ e : Fin 3, ∀ p : Fin 3, ∀ k : Fin 8, fm e.1 k.1 ≤ fm p.1 k.1 + 1 := by decide +kernel
theorem fm_say : ∀ e : Fin 3, ∀ k : Fin 8, fm e.1 k.1 ≤ fm e.1 (k.1 ||| 2 ^ e.1) + 1 := by decide +kernel
theorem fm_on : ∀ e : Fin 3, ∀ k : Fin 8, fm e.1 k.1 ≠ 0 → fm e.1 (k.1 ||| 2 ^ e.1) + 1 = fm e.1 k.1 ∨ ∃ p : Fin 3, p.1 ≠ e.1 ∧ fm p.1 k.1 + 1 = fm e.1 k.1 := by decide +kernel
theorem fm_0 : ∀ e : Fin 3, ∀ k : Fin 8, fm e.1 k.1 = 0 ↔ k.1 = 7 := by decide +kernel
theorem k6 : ∀ k : Fin 64, ∀ e : Fin 3, (k.1 ||| 2 ^ e.1) % 8 = (k.1 % 8) ||| 2 ^ e.1 ∧ (k.1 ||| 2 ^ e.1) / 8 = k.1 / 8 ∧ (k.1 ||| 2 ^ (3 + e.1)) % 8 = k.1 % 8 ∧ (k.1 ||| 2 ^ (3 + e.1)) / 8 = (k.1 / 8) ||| 2 ^ e.1 ∧ k.1 ||| 2 ^ e.1 ≠ 0 ∧ k.1 ||| 2 ^ e.1 < 64 ∧ k.1 ||| 2 ^ (3 + e.1) ≠ 0 ∧ k.1 ||| 2 ^ (3 + e.1) < 64 := by decide +kernel
theorem k6s : ∀ k : Fin 64, ∀ e : Fin 3, ∀ m : Fin 3, ∀ g : Fin 3, spk m.1 g.1 k.1 = true → spk m.1 g.1 (k.1 ||| 2 ^ e.1) = true ∧ spk m.1 g.1 (k.1 ||| 2 ^ (3 + e.1)) = true := by decide +kernel
theorem k6m : ∀ k : Fin 64, ∀ m : Fin 3, ∀ g : Fin 3, k.1 ≠ 0 → spk m.1 g.1 k.1 = false → (∃ p : Fin 3, p.1 ≠ m.1 ∧ spk p.1 g.1 k.1 = true) ∨ ∃ p : Fin 3, p.1 ≠ g.1 ∧ spk m.1 p.1 k.1 = true := by decide +kernel
theorem hx_e {e p m f g k : Nat} (he : e < 3) (hp : p < 3) (hk : k < 64) : hx e m f g k ≤ hx p m f g k + 1 := by
  have := fm_mv ⟨e, he⟩ ⟨p, hp⟩ ⟨k % 8, by omega⟩
  have this : fm e (k % 8) ≤ fm p (k % 8) + 1 := this
  unfold hx
  omega
theorem hx_f {e p m f g k : Nat} (hf : f < 3) (hp : p < 3) (hk : k < 64) : hx e m f g k ≤ hx e m p g k + 1 := by
  have := fm_mv ⟨f, hf⟩ ⟨p, hp⟩ ⟨k / 8, by omega⟩
  have this : fm f (k / 8) ≤ fm p (k / 8) + 1 := this
  unfold hx
  omega
theorem hx_m {e m m' f g g' k : Nat} : hx e m f g k ≤ hx e m' f g' k + 1 := by
  unfold hx
  split <;> split <;> omega
theorem hx_s1 {e m f g k : Nat} (he : e < 3) (hk : k < 64) (hs : spk m g k = true) : hx e m f g k ≤ hx e m f g (k ||| 2 ^ e) + 1 := by
  obtain ⟨k1, k2, _⟩ := k6 ⟨k, hk⟩ ⟨e, he⟩
  have k1 : (k ||| 2 ^ e) % 8 = (k % 8) ||| 2 ^ e := k1
  have k2 : (k ||| 2 ^ e) / 8 = k / 8 := k2
  have := fm_say ⟨e, he⟩ ⟨k % 8, by omega⟩
  have this : fm e (k % 8) ≤ fm e ((k % 8) ||| 2 ^ e) + 1 := this
  unfold hx
  rw [k1, k2, if_pos hs]
  omega
theorem hx_s2 {e m f g k : Nat} (hf : f < 3) (hk : k < 64) (hs : spk m g k = true) : hx e m f g k ≤ hx e m f g (k ||| 2 ^ (3 + f)) + 1 := by
  obtain ⟨_, _, k1, k2, _⟩ := k6 ⟨k, hk⟩ ⟨f, hf⟩
  have k1 : (k ||| 2 ^ (3 + f)) % 8 = k % 8 := k1
  have k2 : (k ||| 2 ^ (3 + f)) / 8 = (k / 8) ||| 2 ^ f := k2
  have := fm_say ⟨f, hf⟩ ⟨k / 8, by omega⟩
  have this : fm f (k / 8) ≤ fm f ((k / 8) ||| 2 ^ f) + 1 := this
  unfold hx
  rw [k1, k2, if_pos hs]
  omega
theorem hx_on {e m f g k : Nat} (he : e < 3) (hm : m < 3) (hf : f < 3) (hg : g < 3) (hk : k < 64) (hk0 : k ≠ 0) (h0 : hx e m f g k ≠ 0) :
    (∃ p, p < 3 ∧ p ≠ e ∧ hx p m f g k + 1 = hx e m f g k) ∨ (∃ p, p < 3 ∧ p ≠ m ∧ hx e p f g k + 1 = hx e m f g k) ∨ (∃ p, p < 3 ∧ p ≠ f ∧ hx e m p g k + 1 = hx e m f g k) ∨ (∃ p, p < 3 ∧ p ≠ g ∧ hx e m f p k + 1 = hx e m f g k) ∨ (spk m g k = true ∧ hx e m f g (k ||| 2 ^ e) + 1 = hx e m f g k) ∨ (spk m g k = true ∧ hx e m f g (k ||| 2 ^ (3 + f)) + 1 = hx e m f g k) := by
  cases hs : spk m g k
  · rcases k6m ⟨k, hk⟩ ⟨m, hm⟩ ⟨g, hg⟩ hk0 hs with ⟨p, h1, h2⟩ | ⟨p, h1, h2⟩
    · have h2 : spk p.1 g k = true := h2
      refine Or.inr (Or.inl ⟨p.1, p.2, h1, ?_⟩)
      unfold hx
      rw [if_pos h2, hs]
      rfl
    · have h2 : spk m p.1 k = true := h2
      refine Or.inr (Or.inr (Or.inr (Or.inl ⟨p.1, p.2, h1, ?_⟩)))
      unfold hx
      rw [if_pos h2, hs]
      rfl
  · obtain ⟨q1, q2, q3, q4, _⟩ := k6 ⟨k, hk⟩ ⟨e, he⟩
    have q1 : (k ||| 2 ^ e) % 8 = (k % 8) ||| 2 ^ e := q1
    have q2 : (k ||| 2 ^ e) / 8 = k / 8 := q2
    obtain ⟨_, _, r1, r2, _⟩ := k6 ⟨k, hk⟩ ⟨f, hf⟩
    have r1 : (k ||| 2 ^ (3 + f)) % 8 = k % 8 := r1
    have r2 : (k ||| 2 ^ (3 + f)) / 8 = (k / 8) ||| 2 ^ f := r2
    have w1 := (k6s ⟨k, hk⟩ ⟨e, he⟩ ⟨m, hm⟩ ⟨g, hg⟩ hs).1
    have w1 : spk m g (k ||| 2 ^ e) = true := w1
    have w2 := (k6s ⟨k, hk⟩ ⟨f, hf⟩ ⟨m, hm⟩ ⟨g, hg⟩ hs).2
    have w2 : spk m g (k ||| 2 ^ (3 + f)) = true := w2
    by_cases c : fm e (k % 8) = 0
    · have c2 : fm f (k / 8) ≠ 0 := by
        intro c2
        apply h0
        unfold hx
        rw [c, c2, hs]
        rfl
      rcases fm_on ⟨f, hf⟩ ⟨k / 8, by omega⟩ c2 with h | ⟨p, h1, h⟩
      · have h : fm f ((k / 8) ||| 2 ^ f) + 1 = fm f (k / 8) := h
        refine Or.inr (Or.inr (Or.inr (Or.inr (Or.inr ⟨rfl, ?_⟩))))
        unfold hx
        rw [r1, r2, w2, hs, if_pos rfl]
        omega
      · have h : fm p.1 (k / 8) + 1 = fm f (k / 8) := h
        refine Or.inr (Or.inr (Or.inl ⟨p.1, p.2, h1, ?_⟩))
        unfold hx
        omega
    · rcases fm_on ⟨e, he⟩ ⟨k % 8, by omega⟩ c with h | ⟨p, h1, h⟩
      · have h : fm e ((k % 8) ||| 2 ^ e) + 1 = fm e (k % 8) := h
        refine Or.inr (Or.inr (Or.inr (Or.inr (Or.inl ⟨rfl, ?_⟩))))
        unfold hx
        rw [q1, q2, w1, hs, if_pos rfl]
        omega
      · have h : fm p.1 (k % 8) + 1 = fm e (k % 8) := h
        refine Or.inl ⟨p.1, p.2, h1, ?_⟩
        unfold hx
        omega
theorem hx_0 {e m f g k : Nat} (he : e < 3) (hm : m < 3) (hf : f < 3) (hk : k < 64) : hx e m f g k = 0 ↔ k = 63 := by
  have h1 := fm_0 ⟨e, he⟩ ⟨k % 8, by omega⟩
  have h1 : fm e (k % 8) = 0 ↔ k % 8 = 7 := h1
  have h2 := fm_0 ⟨f, hf⟩ ⟨k / 8, by omega⟩
  have h2 : fm f (k / 8) = 0 ↔ k / 8 = 7 := h2
  unfold hx
  constructor
  · intro h
    have a := h1.mp (by omega)
    have b := h2.mp (by omega)
    omega
  · rintro rfl
    rw [h1.mpr (by omega), h2.mpr (by omega)]
    have : spk m g 63 = true := by
      unfold spk
      rcases (show m = 0 ∨ m = 1 ∨ m = 2 by omega) with rfl | rfl | rfl <;> rfl
    rw [this]
    rfl
/-! what is seen, breadth first -/
/-- how many are seen -/
def cnt (A : Nat → Option Nat) : Nat → Nat
  | 0 => 0
  | k + 1 => if A k = none then cnt A k else cnt A k + 1
theorem cnt_le (A : Nat → Option Nat) (k : Nat) : cnt A k ≤ k := by
  induction k with
  | zero => exact Nat.le_refl _
  | succ k ih =>
    show (if A k = none then cnt A k else cnt A k + 1) ≤ k + 1
    split <;> omega
def seta (A : Nat → Option Nat) (q v : Nat) : Nat → Option Nat := fun x => if x = q then some v else A x
theorem seta_e {A : Nat → Option Nat} {q v : Nat} : seta A q v q = some v := if_pos rfl
theorem seta_n {A : Nat → Option Nat} {q v x : Nat} (h : x ≠ q) : seta A q v x = A x := if_neg h
theorem cnt_c {A A' : Nat → Option Nat} {k : Nat} (h : ∀ x, x < k → A' x = A x) : cnt A' k = cnt A k := by
  induction k with
  | zero => rfl
  | succ k ih =>
    show (if A' k = none then cnt A' k else cnt A' k + 1) = if A k = none then cnt A k else cnt A k + 1
    rw [ih (fun x hx => h x (by omega)), h k (by omega)]
theorem cnt_set {A : Nat → Option Nat} {q v k : Nat} (hq : q < k) (hA : A q = none) : cnt (seta A q v) k = cnt A k + 1 := by
  induction k with
  | zero => exact absurd hq (Nat.not_lt_zero _)
  | succ k ih =>
    show (if seta A q v k = none then cnt (seta A q v) k else cnt (seta A q v) k + 1) = (if A k = none then cnt A k else cnt A k + 1) + 1
    by_cases e : k = q
    · subst e
      rw [seta_e, hA, if_pos rfl, if_neg (by intro c; cases c), cnt_c (fun x hx => seta_n (by omega))]
    · rw [seta_n e, ih (by omega)]
      split <;> rfl
theorem cnt_lt {A : Nat → Option Nat} {q k : Nat} (hq : q < k) (hA : A q = none) : cnt A k < k := by
  have h1 := cnt_set (v := 0) hq hA
  have h2 := cnt_le (seta A q 0) k
  omega
/-- a graph with what is left -/
def GR (N : Nat) (hh : Nat → Nat) (G : Nat → Prop) (S : Nat → Nat → Prop) : Prop := (∀ s q, s < N → G s → S s q → q < N ∧ G q ∧ hh s ≤ hh q + 1) ∧ ∀ s, s < N → G s → hh s ≠ 0 → ∃ q, S s q ∧ hh q + 1 = hh s
def BF (N : Nat) (hh : Nat → Nat) (G : Nat → Prop) (S : Nat → Nat → Prop) (st i : Nat) (A : Nat → Option Nat) (Q : Nat → Nat) (n : Nat) : Prop :=
  (∀ q d, A q = some d → q < N ∧ G q ∧ hh st ≤ d + hh q) ∧ (∀ j, j < n → ∃ d, A (Q j) = some d ∧ d ≤ j) ∧ (∀ q d, A q = some d → ∃ j, j < n ∧ Q j = q) ∧
  (∀ j j' d d', j ≤ j' → j' < n → A (Q j) = some d → A (Q j') = some d' → d ≤ d') ∧ (∀ j d v, j < n → i < n → A (Q j) = some d → A (Q i) = some v → d ≤ v + 1) ∧
  (∀ j, j < i → j < n → hh (Q j) ≠ 0 ∧ ∀ q w, A (Q j) = some w → S (Q j) q → ∃ d, A q = some d ∧ d ≤ w + 1) ∧ A st = some 0 ∧ cnt A N = n
theorem BF_open {N : Nat} {hh : Nat → Nat} {G : Nat → Prop} {S : Nat → Nat → Prop} {st i n : Nat} {A : Nat → Option Nat} {Q : Nat → Nat} (hG : GR N hh G S) (hB : BF N hh G S st i A Q n) : ∀ k q d, A q = some d → hh q ≤ k → d + hh q ≤ hh st → ∃ j d, i ≤ j ∧ j < n ∧ A (Q j) = some d ∧ d + hh (Q j) ≤ hh st := by
  obtain ⟨b1, b2, b3, b4, b5, b6, b7, b8⟩ := hB
  intro k
  induction k with
  | zero =>
    intro q d hq hk hd
    obtain ⟨j, j1, rfl⟩ := b3 q d hq
    rcases Nat.lt_or_ge j i with c | c
    · exact absurd (Nat.le_zero.mp hk) (b6 j c j1).1
    · exact ⟨j, d, c, j1, hq, hd⟩
  | succ k ih =>
    intro q d hq hk hd
    obtain ⟨j, j1, rfl⟩ := b3 q d hq
    rcases Nat.lt_or_ge j i with c | c
    · obtain ⟨e1, e2⟩ := b6 j c j1
      obtain ⟨g1, g2, _⟩ := b1 _ _ hq
      obtain ⟨q', s1, s2⟩ := hG.2 (Q j) g1 g2 e1
      obtain ⟨d', a1, a2⟩ := e2 q' d hq s1
      exact ih q' d' a1 (by omega) (by omega)
    · exact ⟨j, d, c, j1, hq, hd⟩
theorem BF_head {N : Nat} {hh : Nat → Nat} {G : Nat → Prop} {S : Nat → Nat → Prop} {st i n : Nat} {A : Nat → Option Nat} {Q : Nat → Nat} (hG : GR N hh G S) (hB : BF N hh G S st i A Q n) : i < n ∧ n ≤ N ∧ ∃ v, A (Q i) = some v ∧ v ≤ i ∧ Q i < N ∧ G (Q i) ∧ (hh (Q i) = 0 → v = hh st) := by
  obtain ⟨j, d, h1, h2, h3, h4⟩ := BF_open hG hB (hh st) st 0 hB.2.2.2.2.2.2.1 (Nat.le_refl _) (by omega)
  obtain ⟨b1, b2, b3, b4, b5, b6, b7, b8⟩ := hB
  have hi : i < n := by omega
  obtain ⟨v, v1, v2⟩ := b2 i hi
  obtain ⟨g1, g2, g3⟩ := b1 _ _ v1
  refine ⟨hi, by rw [← b8]; exact cnt_le A N, v, v1, v2, g1, g2, fun h0 => ?_⟩
  have := b4 i j v d h1 h2 v1 h3
  omega
/-- one comes -/
theorem BF_come {N : Nat} {hh : Nat → Nat} {G : Nat → Prop} {S : Nat → Nat → Prop} {st i n v q : Nat} {A : Nat → Option Nat} {Q : Nat → Nat} (hG : GR N hh G S) (hB : BF N hh G S st i A Q n) (hi : i < n) (hv : A (Q i) = some v) (hS : S (Q i) q) :
    (A q = none → n < N ∧ q < N ∧ BF N hh G S st i (seta A q (v + 1)) (upn Q n q) (n + 1) ∧ seta A q (v + 1) (upn Q n q i) = some (v + 1 - 1) ∧ upn Q n q i = Q i) ∧ (∀ d, A q = some d → d ≤ v + 1) := by
  obtain ⟨b1, b2, b3, b4, b5, b6, b7, b8⟩ := hB
  obtain ⟨g1, g2, g3⟩ := b1 _ _ hv
  obtain ⟨s1, s2, s3⟩ := hG.1 (Q i) q g1 g2 hS
  obtain ⟨v', hv', hvi⟩ := b2 i hi
  obtain rfl : v = v' := Option.some.inj (hv.symm.trans hv')
  constructor
  · intro hq
    have hQ : ∀ j, j < n → Q j ≠ q := by
      rintro j hj rfl
      obtain ⟨d, hd, _⟩ := b2 j hj
      rw [hq] at hd; cases hd
    have hQu : ∀ j, j < n → upn Q n q j = Q j := fun j hj => upn_n (by omega)
    have hAu : ∀ j, j < n → seta A q (v + 1) (upn Q n q j) = A (Q j) := fun j hj => by rw [hQu j hj, seta_n (hQ j hj)]
    have hAn : seta A q (v + 1) (upn Q n q n) = some (v + 1) := by rw [upn_e, seta_e]
    refine ⟨by rw [← b8]; exact cnt_lt s1 hq, s1, ⟨?_, ?_, ?_, ?_, ?_, ?_, ?_, ?_⟩, ?_, hQu i hi⟩
    · intro x d hx
      by_cases e : x = q
      · subst e
        rw [seta_e] at hx
        have := Option.some.inj hx
        exact ⟨s1, s2, by omega⟩
      · rw [seta_n e] at hx; exact b1 x d hx
    · intro j hj
      by_cases e : j = n
      · subst e
        exact ⟨v + 1, hAn, by omega⟩
      · rw [hAu j (by omega)]; exact b2 j (by omega)
    · intro x d hx
      by_cases e : x = q
      · subst e; exact ⟨n, by omega, upn_e⟩
      · rw [seta_n e] at hx
        obtain ⟨j, h1, h2⟩ := b3 x d hx
        exact ⟨j, by omega, by rw [hQu j h1]; exact h2⟩
    · intro j j' d d' h1 h2 h3 h4
      by_cases e : j' = n
      · subst e
        rw [hAn] at h4
        have h4 := Option.some.inj h4
        by_cases e2 : j = j'
        · subst e2
          rw [hAn] at h3
          have := Option.some.inj h3
          omega
        · rw [hAu j (by omega)] at h3
          have := b5 j d v (by omega) hi h3 hv
          omega
      · rw [hAu j (by omega)] at h3
        rw [hAu j' (by omega)] at h4
        exact b4 j j' d d' h1 (by omega) h3 h4
    · intro j d w h1 _ h3 h4
      rw [hAu i hi, hv] at h4
      have h4 := Option.some.inj h4
      by_cases e : j = n
      · subst e
        rw [hAn] at h3
        have := Option.some.inj h3
        omega
      · rw [hAu j (by omega)] at h3
        have := b5 j d v (by omega) hi h3 hv
        omega
    · intro j h1 _
      have hjn : j < n := by omega
      rw [hQu j hjn]
      obtain ⟨e1, e2⟩ := b6 j h1 hjn
      refine ⟨e1, fun x w hw hSx => ?_⟩
      rw [seta_n (hQ j hjn)] at hw
      obtain ⟨d, d1, d2⟩ := e2 x w hw hSx
      refine ⟨d, ?_, d2⟩
      rw [seta_n (by rintro rfl; rw [hq] at d1; cases d1)]
      exact d1
    · rw [seta_n (by rintro rfl; rw [hq] at b7; cases b7)]
      exact b7
    · rw [cnt_set s1 hq, b8]
    · rw [hAu i hi, hv]; rfl
  · intro d hd
    obtain ⟨j, h1, rfl⟩ := b3 q d hd
    exact b5 j d v h1 hi hd hv
/-- the head is gone through -/
theorem BF_next {N : Nat} {hh : Nat → Nat} {G : Nat → Prop} {S : Nat → Nat → Prop} {st i n v : Nat} {A : Nat → Option Nat} {Q : Nat → Nat} (hB : BF N hh G S st i A Q n) (hi : i < n) (hv : A (Q i) = some v) (h0 : hh (Q i) ≠ 0) (hcov : ∀ q, S (Q i) q → ∃ d, A q = some d ∧ d ≤ v + 1) : BF N hh G S st (i + 1) A Q n := by
  obtain ⟨b1, b2, b3, b4, b5, b6, b7, b8⟩ := hB
  refine ⟨b1, b2, b3, b4, fun j d w h1 h2 h3 h4 => ?_, fun j h1 h2 => ?_, b7, b8⟩
  · have g1 := b5 j d v h1 hi h3 hv
    have g2 := b4 i (i + 1) v w (by omega) h2 hv h4
    omega
  · rcases Nat.lt_or_ge j i with c | c
    · exact b6 j c h2
    · obtain rfl : j = i := by omega
      refine ⟨h0, fun q w hw hS => ?_⟩
      obtain rfl : v = w := Option.some.inj (hv.symm.trans hw)
      exact hcov q hS
theorem BF_0 {N : Nat} {hh : Nat → Nat} {G : Nat → Prop} {S : Nat → Nat → Prop} {st : Nat} (hst : st < N) (hg : G st) : BF N hh G S st 0 (seta (fun _ => none) st 0) (upn (fun _ => 0) 0 st) 1 := by
  have hA : ∀ q d, seta (fun _ => none) st 0 q = some d → q = st ∧ d = 0 := by
    intro q d h
    by_cases e : q = st
    · subst e
      rw [seta_e] at h
      exact ⟨rfl, (Option.some.inj h).symm⟩
    · rw [seta_n e] at h; cases h
  refine ⟨?_, ?_, ?_, ?_, ?_, ?_, seta_e, ?_⟩
  · intro q d h
    obtain ⟨rfl, rfl⟩ := hA q d h
    exact ⟨hst, hg, by omega⟩
  · intro j hj
    obtain rfl : j = 0 := by omega
    rw [upn_e]
    exact ⟨0, seta_e, Nat.le_refl _⟩
  · intro q d h
    obtain ⟨rfl, rfl⟩ := hA q d h
    exact ⟨0, by omega, upn_e⟩
  · intro j j' d d' _ _ h1 h2
    have := (hA _ _ h1).2
    omega
  · intro j d v _ _ h1 _
    have := (hA _ _ h1).2
    omega
  · intro j h; exact absurd h (Nat.not_lt_zero _)
  · rw [cnt_set hst rfl]
    have : ∀ k, cnt (fun _ => none) k = 0 := by
      intro k
      induction k with
      | zero => rfl
      | succ k ih => exact ih
    rw [this]
