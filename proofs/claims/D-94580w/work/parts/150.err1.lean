/-! LAYER 2: errands: states, what is left to do, the least cost (no program) -/
def ce (s : Nat) : Nat := s / 72
def cr (s : Nat) : Nat := s / 24 % 3
def co (s : Nat) : Nat := s / 8 % 3
def ck (s : Nat) : Nat := s % 8
def mk (e r o k : Nat) : Nat := 72 * e + 24 * r + 8 * o + k
/-- what is left: 0 nothing, 1 to see, 2 to hand over, 3 both -/
def kd (s : Nat) : Nat := if (ck s).testBit (co s) = true then 0 else if ce s = co s then 1 else if ck s = 0 then 3 else 2
def vk (h t : Nat) : Nat → Nat
  | 0 => 0
  | 1 => t
  | 2 => h
  | _ => h + t
/-- an act and what it costs -/
def suc (h t s q w : Nat) : Prop := (∃ x, x < 3 ∧ x ≠ ce s ∧ q = mk x (cr s) (co s) (ck s) ∧ w = h) ∨ (∃ x, x < 3 ∧ x ≠ cr s ∧ q = mk (ce s) x (co s) (ck s) ∧ w = h) ∨ (∃ x, x < 3 ∧ x ≠ co s ∧ q = mk (ce s) (cr s) x (ck s) ∧ w = h) ∨
  (q = mk (ce s) (cr s) (co s) (ck s ||| 2 ^ ce s) ∧ w = t) ∨ ((ck s).testBit (co s) = true ∧ q = mk (ce s) (cr s) (co s) (ck s ||| 2 ^ cr s) ∧ w = t)
theorem k_mv : ∀ s : Fin 216, ∀ x : Fin 3, (kd s.1 ≠ 3 ∨ kd (mk x.1 (cr s.1) (co s.1) (ck s.1)) ≠ 0) ∧ (kd s.1 ≠ 3 ∨ kd (mk (ce s.1) x.1 (co s.1) (ck s.1)) ≠ 0) ∧ (kd s.1 ≠ 3 ∨ kd (mk (ce s.1) (cr s.1) x.1 (ck s.1)) ≠ 0) ∧ mk x.1 (cr s.1) (co s.1) (ck s.1) < 216 ∧ mk (ce s.1) x.1 (co s.1) (ck s.1) < 216 ∧ mk (ce s.1) (cr s.1) x.1 (ck s.1) < 216 := by decide +kernel
theorem k_see : ∀ s : Fin 216, (kd s.1 ≤ 1 ∨ kd (mk (ce s.1) (cr s.1) (co s.1) (ck s.1 ||| 2 ^ ce s.1)) = 2) ∧ mk (ce s.1) (cr s.1) (co s.1) (ck s.1 ||| 2 ^ ce s.1) < 216 ∧ mk (ce s.1) (cr s.1) (co s.1) (ck s.1 ||| 2 ^ cr s.1) < 216 ∧ kd s.1 ≤ 3 := by decide +kernel
theorem k_on : ∀ s : Fin 216, (kd s.1 = 1 → kd (mk (ce s.1) (cr s.1) (co s.1) (ck s.1 ||| 2 ^ ce s.1)) = 0) ∧ (kd s.1 = 2 → ∃ x : Fin 3, x.1 ≠ co s.1 ∧ kd (mk (ce s.1) (cr s.1) x.1 (ck s.1)) = 0) ∧ (kd s.1 = 3 → co s.1 ≠ ce s.1 ∧ kd (mk (co s.1) (cr s.1) (co s.1) (ck s.1)) = 1) ∧ ce s.1 < 3 ∧ cr s.1 < 3 ∧ co s.1 < 3 ∧ ck s.1 < 8 ∧ mk (ce s.1) (cr s.1) (co s.1) (ck s.1) = s.1 := by decide +kernel
theorem suc_lt {h t s q w : Nat} (hs : s < 216) (H : suc h t s q w) : q < 216 := by
  rcases H with ⟨x, h1, _, rfl, _⟩ | ⟨x, h1, _, rfl, _⟩ | ⟨x, h1, _, rfl, _⟩ | ⟨rfl, _⟩ | ⟨_, rfl, _⟩
  · exact (k_mv ⟨s, hs⟩ ⟨x, h1⟩).2.2.2.1
  · exact (k_mv ⟨s, hs⟩ ⟨x, h1⟩).2.2.2.2.1
  · exact (k_mv ⟨s, hs⟩ ⟨x, h1⟩).2.2.2.2.2
  · exact (k_see ⟨s, hs⟩).2.1
  · exact (k_see ⟨s, hs⟩).2.2.1
theorem vk_mv {h t a b : Nat} (h1 : 1 ≤ h) (h2 : t ≤ 1) (ha : a ≤ 3) (hab : a ≠ 3 ∨ b ≠ 0) : vk h t a ≤ h + vk h t b := by
  have e : ∀ b, b ≠ 0 → t ≤ vk h t b := by
    intro b hb
    unfold vk
    split
    · exact absurd rfl hb
    · omega
    · omega
    · omega
  rcases (show a = 0 ∨ a = 1 ∨ a = 2 ∨ a = 3 by omega) with rfl | rfl | rfl | rfl
  · exact Nat.zero_le _
  · show t ≤ _; omega
  · show h ≤ _; omega
  · show h + t ≤ _
    rcases hab with g | g
    · exact absurd rfl g
    · have := e b g; omega
theorem suc_vk {h t s q w : Nat} (h1 : 1 ≤ h) (h2 : t ≤ 1) (hs : s < 216) (H : suc h t s q w) : vk h t (kd s) ≤ w + vk h t (kd q) := by
  have h3 : kd s ≤ 3 := (k_see ⟨s, hs⟩).2.2.2
  rcases H with ⟨x, g1, _, rfl, rfl⟩ | ⟨x, g1, _, rfl, rfl⟩ | ⟨x, g1, _, rfl, rfl⟩ | ⟨rfl, rfl⟩ | ⟨g, rfl, rfl⟩
  · exact vk_mv h1 h2 h3 (k_mv ⟨s, hs⟩ ⟨x, g1⟩).1
  · exact vk_mv h1 h2 h3 (k_mv ⟨s, hs⟩ ⟨x, g1⟩).2.1
  · exact vk_mv h1 h2 h3 (k_mv ⟨s, hs⟩ ⟨x, g1⟩).2.2.1
  · rcases (k_see ⟨s, hs⟩).1 with g | g
    · have g : kd s ≤ 1 := g
      rcases (show kd s = 0 ∨ kd s = 1 by omega) with e | e <;> rw [e]
      · exact Nat.zero_le _
      · show w ≤ _; omega
    · have g : kd (mk (ce s) (cr s) (co s) (ck s ||| 2 ^ ce s)) = 2 := g
      rw [g]
      rcases (show kd s = 0 ∨ kd s = 1 ∨ kd s = 2 ∨ kd s = 3 by omega) with e | e | e | e <;> rw [e]
      · exact Nat.zero_le _
      · show w ≤ w + h; omega
      · show h ≤ w + h; omega
      · show h + w ≤ w + h; omega
  · have : kd s = 0 := if_pos g
    rw [this]
    exact Nat.zero_le _
/-- there is an act on the way -/
theorem suc_on {h t s : Nat} (hs : s < 216) (h0 : kd s ≠ 0) : ∃ q w, suc h t s q w ∧ kd q < kd s ∧ w + vk h t (kd q) = vk h t (kd s) := by
  have hkd : kd s = 1 ∨ kd s = 2 ∨ kd s = 3 := by
    have h3 : kd s ≤ 3 := (k_see ⟨s, hs⟩).2.2.2
    omega
  obtain ⟨k1, k2, k3, _, _, c1, _⟩ := k_on ⟨s, hs⟩
  have k1 : kd s = 1 → kd (mk (ce s) (cr s) (co s) (ck s ||| 2 ^ ce s)) = 0 := k1
  have k3 : kd s = 3 → co s ≠ ce s ∧ kd (mk (co s) (cr s) (co s) (ck s)) = 1 := k3
  rcases hkd with e | e | e
  · exact ⟨_, t, Or.inr (Or.inr (Or.inr (Or.inl ⟨rfl, rfl⟩))), by rw [k1 e]; omega, by rw [k1 e, e]; rfl⟩
  · obtain ⟨x, x1, x2⟩ := k2 e
    have x2 : kd (mk (ce s) (cr s) x.1 (ck s)) = 0 := x2
    exact ⟨_, h, Or.inr (Or.inr (Or.inl ⟨x.1, x.2, x1, rfl, rfl⟩)), by rw [x2]; omega, by rw [x2, e]; rfl⟩
  · obtain ⟨x1, x2⟩ := k3 e
    exact ⟨_, h, Or.inl ⟨co s, c1, x1, rfl, rfl⟩, by rw [x2]; omega, by rw [x2, e]; rfl⟩
/-- costs from a start -/
def CI (h t st : Nat) (C : Nat → Nat) : Prop := (∀ s, s < 216 → C s ≤ 1000000 ∧ (C s < 1000000 → vk h t (kd st) ≤ C s + vk h t (kd s))) ∧ C st = 0
/-- costs that some acts from s have made less -/
def RL (h t s : Nat) (C C' : Nat → Nat) : Prop := (∀ q, C' q ≤ C q) ∧ (∀ q, C' q = C q ∨ ∃ w, suc h t s q w ∧ C' q = C s + w) ∧ C' s = C s
theorem RL_id {h t s : Nat} {C : Nat → Nat} : RL h t s C C := ⟨fun _ => Nat.le_refl _, fun _ => Or.inl rfl, rfl⟩
theorem RL_tr {h t s : Nat} {C C' C'' : Nat → Nat} (h1 : RL h t s C C') (h2 : RL h t s C' C'') : RL h t s C C'' := by
  refine ⟨fun q => Nat.le_trans (h2.1 q) (h1.1 q), fun q => ?_, h2.2.2.trans h1.2.2⟩
  rcases h2.2.1 q with e | ⟨w, e1, e2⟩
  · rw [e]; exact h1.2.1 q
  · exact Or.inr ⟨w, e1, by rw [e2, h1.2.2]⟩
def rlx (C : Nat → Nat) (q v : Nat) : Nat → Nat := fun x => if x = q then (if v < C q then v else C q) else C x
theorem rlx_e {C : Nat → Nat} {q v : Nat} : rlx C q v q = if v < C q then v else C q := if_pos rfl
theorem rlx_n {C : Nat → Nat} {q v x : Nat} (h : x ≠ q) : rlx C q v x = C x := if_neg h
theorem rlx_le {C : Nat → Nat} {q v : Nat} (x : Nat) : rlx C q v x ≤ C x := by
  unfold rlx
  split
  · next e => subst e; split <;> omega
  · exact Nat.le_refl _
theorem rlx_v {C : Nat → Nat} {q v : Nat} : rlx C q v q ≤ v := by
  rw [rlx_e]
  split <;> omega
theorem RL_one {h t s q w : Nat} {C : Nat → Nat} (hs : suc h t s q w) : RL h t s C (rlx C q (C s + w)) := by
  refine ⟨rlx_le, fun x => ?_, ?_⟩
  · by_cases e : x = q
    · subst e
      rw [rlx_e]
      split
      · exact Or.inr ⟨w, hs, rfl⟩
      · exact Or.inl rfl
    · exact Or.inl (rlx_n e)
  · by_cases e : s = q
    · subst e
      rw [rlx_e, if_neg (by omega)]
    · exact rlx_n e
theorem CI_RL {h t st s : Nat} {C C' : Nat → Nat} (h1 : 1 ≤ h) (h2 : t ≤ 1) (hs : s < 216) (hc : C s < 1000000) (hI : CI h t st C) (hR : RL h t s C C') : CI h t st C' := by
  refine ⟨fun q hq => ⟨Nat.le_trans (hR.1 q) (hI.1 q hq).1, fun hlt => ?_⟩, ?_⟩
  · rcases hR.2.1 q with e | ⟨w, e1, e2⟩
    · rw [e] at hlt ⊢; exact (hI.1 q hq).2 hlt
    · have g1 := (hI.1 s hs).2 hc
      have g2 := suc_vk h1 h2 hs e1
      omega
  · have := hR.1 st
    have := hI.2
    omega
/-- from a state on the way there is one that fulfils P -/
theorem way_on {h t st : Nat} {C : Nat → Nat} {P : Nat → Prop} (hP : ∀ s, s < 216 → ¬ P s → kd s ≠ 0 ∧ ∀ q w, suc h t s q w → C q ≤ C s + w) : ∀ k s, s < 216 → kd s ≤ k → C s + vk h t (kd s) ≤ vk h t (kd st) → ∃ u, u < 216 ∧ P u ∧ C u + vk h t (kd u) ≤ vk h t (kd st) := by
  intro k
  induction k with
  | zero =>
    intro s hs hk hv
    refine ⟨s, hs, ?_, hv⟩
    refine Classical.byContradiction fun c => ?_
    have := (hP s hs c).1
    omega
  | succ k ih =>
    intro s hs hk hv
    refine Classical.byContradiction fun c => ?_
    have hn : ¬ P s := fun g => c ⟨s, hs, g, hv⟩
    obtain ⟨h0, hc⟩ := hP s hs hn
    obtain ⟨q, w, s1, s2, s3⟩ := suc_on (h := h) (t := t) hs h0
    have := hc q w s1
    exact c (ih q (suc_lt hs s1) (by omega) (by omega))
theorem vk_lt {h t : Nat} (h9 : h ≤ 9) (ht : t ≤ 1) (a : Nat) : vk h t a ≤ 10 := by
  unfold vk
  split <;> omega
/-- OneEye's order: who is done -/
def DI (h t : Nat) (C : Nat → Nat) (D : Nat → Bool) : Prop := (∀ d, d < 216 → D d = true → kd d ≠ 0 ∧ ∀ q w, suc h t d q w → C q ≤ C d + w) ∧ ∀ d u, d < 216 → u < 216 → D d = true → D u = false → C d ≤ C u
theorem D_best {h t st : Nat} {C : Nat → Nat} {D : Nat → Bool} (hst : st < 216) (hI : CI h t st C) (hD : DI h t C D) : ∃ u, u < 216 ∧ D u = false ∧ C u + vk h t (kd u) ≤ vk h t (kd st) := by
  obtain ⟨u, h1, h2, h3⟩ := way_on (h := h) (t := t) (st := st) (C := C) (P := fun s => D s = false) (fun s hs hn => hD.1 s hs (by cases c : D s; exact absurd c hn; rfl)) (kd st) st hst (Nat.le_refl _) (by rw [hI.2, Nat.zero_add]; exact Nat.le_refl _)
  exact ⟨u, h1, h2, h3⟩
theorem D_next {h t b : Nat} {C C' : Nat → Nat} {D : Nat → Bool} (hb : b < 216) (hDb : D b = false) (hmin : ∀ u, u < 216 → D u = false → C b ≤ C u) (hkb : kd b ≠ 0) (hD : DI h t C D) (hR : RL h t b C C') (hcov : ∀ q w, suc h t b q w → C' q ≤ C b + w) : DI h t C' (fun x => if x = b then true else D x) := by
  have hsame : ∀ d, d < 216 → D d = true → C' d = C d := by
    intro d hd hDd
    have h1 := hR.1 d
    rcases hR.2.1 d with e | ⟨w, _, e⟩
    · exact e
    · have := hD.2 d b hd hb hDd hDb
      omega
  constructor
  · intro d hd hDd
    dsimp only at hDd
    by_cases e : d = b
    · subst e
      refine ⟨hkb, fun q w hq => ?_⟩
      rw [hR.2.2]
      exact hcov q w hq
    · rw [if_neg e] at hDd
      refine ⟨(hD.1 d hd hDd).1, fun q w hq => ?_⟩
      rw [hsame d hd hDd]
      exact Nat.le_trans (hR.1 q) ((hD.1 d hd hDd).2 q w hq)
  · intro d u hd hu hDd hDu
    dsimp only at hDd hDu
    have hub : u ≠ b := by rintro rfl; rw [if_pos rfl] at hDu; cases hDu
    rw [if_neg hub] at hDu
    have hCu : C b ≤ C' u := by
      rcases hR.2.1 u with e | ⟨w, _, e⟩
      · rw [e]; exact hmin u hu hDu
      · omega
    by_cases e : d = b
    · subst e
      rw [hR.2.2]; exact hCu
    · rw [if_neg e] at hDd
      rw [hsame d hd hDd]
      exact Nat.le_trans (hD.2 d b hd hb hDd hDb) hCu
