/-! LAYER 2: errands: OneEyeModel's acts -/
def pl (s : Nat) : Nat := 9 * ce s + 3 * cr s + co s
def tau (s : Nat) : Nat := 27 * ck s + pl s
def ta (i : Nat) : Nat := mk (i % 27 / 9) (i % 27 / 3 % 3) (i % 27 % 3) (i / 27)
theorem ta_k : ∀ i : Fin 216, ta i.1 < 216 ∧ tau (ta i.1) = i.1 ∧ tau i.1 < 216 ∧ ta (tau i.1) = i.1 ∧ tau i.1 % 27 = pl i.1 ∧ tau i.1 / 27 = ck i.1 ∧ pl i.1 < 27 := by decide +kernel
def cu (x s : Nat) : Nat := if x = 0 then ce s else if x = 1 then cr s else co s
def rp (x k s : Nat) : Nat := if x = 0 then mk k (cr s) (co s) (ck s) else if x = 1 then mk (ce s) k (co s) (ck s) else mk (ce s) (cr s) k (ck s)
theorem rp_k : ∀ s : Fin 216, ∀ x : Fin 3, ∀ k : Fin 3, rp x.1 k.1 s.1 < 216 ∧ tau (rp x.1 k.1 s.1) = 27 * ck s.1 + pl (rp x.1 k.1 s.1) ∧ mb (pl s.1) x.1 = cu x.1 s.1 ∧ cu x.1 s.1 < 3 ∧ pl (rp x.1 k.1 s.1) = pl s.1 + k.1 * (if x.1 = 0 then 9 else if x.1 = 1 then 3 else 1) - cu x.1 s.1 * (if x.1 = 0 then 9 else if x.1 = 1 then 3 else 1) ∧ cu x.1 s.1 * (if x.1 = 0 then 9 else if x.1 = 1 then 3 else 1) ≤ pl s.1 := by decide +kernel
theorem rp_suc {h t s x k : Nat} (hx : x < 3) (hk : k < 3) (hn : k ≠ cu x s) : suc h t s (rp x k s) h := by
  unfold rp cu at *
  rcases (show x = 0 ∨ x = 1 ∨ x = 2 by omega) with rfl | rfl | rfl
  · rw [if_pos rfl] at hn ⊢
    exact Or.inl ⟨k, hk, hn, rfl, rfl⟩
  · rw [if_neg (by omega), if_pos rfl] at hn ⊢
    exact Or.inr (Or.inl ⟨k, hk, hn, rfl, rfl⟩)
  · rw [if_neg (by omega), if_neg (by omega)] at hn ⊢
    exact Or.inr (Or.inr (Or.inl ⟨k, hk, hn, rfl, rfl⟩))
theorem mv_ar {p k r c : Nat} (h : r * c ≤ p) : nI p + (nI k - nI r) * nI c = nI (p + k * c - r * c) := by
  rw [Int32.sub_mul, ni_mul, ni_mul, Int32.sub_eq_add_neg, ← Int32.add_assoc, ← Int32.sub_eq_add_neg, ni_add, ni_sub (by omega)]
theorem m_moved {Z : zT} {s x k : Nat} (hs : s < 216) (hx : x < 3) (hk : k < 3) : fX4_movedTo Z (nI (pl s)) (nI x) (nI k) = some (nI (pl (rp x k s))) := by
  have hp := (ta_k ⟨s, hs⟩).2.2.2.2.2.2
  have hp : pl s < 27 := hp
  obtain ⟨g1, g2, g3, g4, g5, g6⟩ := rp_k ⟨s, hs⟩ ⟨x, hx⟩ ⟨k, hk⟩
  have g3 : mb (pl s) x = cu x s := g3
  have g5 : pl (rp x k s) = pl s + k * (if x = 0 then 9 else if x = 1 then 3 else 1) - cu x s * (if x = 0 then 9 else if x = 1 then 3 else 1) := g5
  have g6 : cu x s * (if x = 0 then 9 else if x = 1 then 3 else 1) ≤ pl s := g6
  unfold fX4_movedTo
  rw [m_mem hp hx, bd_s, njE, g3, g5]
  rcases (show x = 0 ∨ x = 1 ∨ x = 2 by omega) with rfl | rfl | rfl
  · rw [if_pos rfl] at g6 ⊢
    rw [if_pos (show nI 0 = (0 : Int32) from rfl)]
    exact congrArg some (mv_ar (c := 9) g6)
  · rw [if_neg (show ¬ (1 : Nat) = 0 by omega), if_pos (show (1 : Nat) = 1 from rfl)] at g6 ⊢
    rw [if_neg (show ¬ nI 1 = (0 : Int32) from by decide), if_pos (show nI 1 = (1 : Int32) from rfl)]
    exact congrArg some (mv_ar (c := 3) g6)
  · rw [if_neg (show ¬ (2 : Nat) = 0 by omega), if_neg (show ¬ (2 : Nat) = 1 by omega)] at g6 ⊢
    rw [if_neg (show ¬ nI 2 = (0 : Int32) from by decide), if_neg (show ¬ nI 2 = (1 : Int32) from by decide)]
    exact congrArg some (mv_ar (c := 1) g6)
/-- costs in OneEyeModel's memory -/
def fr46 (Z0 z : zT) : Prop := ∀ g, g ≠ 46 → g ≠ 47 → z g = Z0 g
def CZ (z : zT) (C : Nat → Nat) (fl : Nat) : Prop := (∀ q, q < 216 → z 46 (tau q) = nI (C q)) ∧ (∀ q, C q ≤ 1000000) ∧ z 47 0 = nI fl
def SP (C : Nat → Nat) (fl : Nat) (C' : Nat → Nat) (fl' : Nat) : Prop := (fl' = 1 ∧ ∃ q, q < 216 ∧ C' q < C q) ∨ (fl' = fl ∧ C' = C)
theorem SP_tr {C C1 C2 : Nat → Nat} {f f1 f2 : Nat} (h1 : SP C f C1 f1) (hle : ∀ q, C1 q ≤ C q) (h2 : SP C1 f1 C2 f2) : SP C f C2 f2 := by
  rcases h2 with ⟨e, q, hq, hlt⟩ | ⟨rfl, rfl⟩
  · exact Or.inl ⟨e, q, hq, Nat.lt_of_lt_of_le hlt (hle q)⟩
  · exact h1
theorem tau_inj {q x : Nat} (hq : q < 216) (hx : x < 216) (h : tau x = tau q) : x = q := by
  have h1 := (ta_k ⟨q, hq⟩).2.2.2.1
  have h2 := (ta_k ⟨x, hx⟩).2.2.2.1
  have h1 : ta (tau q) = q := h1
  have h2 : ta (tau x) = x := h2
  rw [← h1, ← h2, h]
theorem m_comes {Z0 z : zT} {C : Nat → Nat} {fl q v : Nat} (hz : fr46 Z0 z) (hC : CZ z C fl) (hq : q < 216) (hv : v ≤ 1000100) : ∃ z' fl', fr46 Z0 z' ∧ CZ z' (rlx C q v) fl' ∧ SP C fl (rlx C q v) fl' ∧ fX4_comes z (nI (tau q)) (nI v) = some z' := by
  have ht : tau q < 216 := (ta_k ⟨q, hq⟩).2.2.1
  have hc := hC.2.1 q
  have hun : fX4_comes z (nI (tau q)) (nI v) = if nI v < nI (C q) then some (zset (zset z 46 (tau q) (nI v)) 47 0 (nI 1)) else some z := by
    unfold fX4_comes
    rw [gd_of (inb_t (show tau q < 46656 by omega) (by omega)), ni_ix (show tau q < 2147483648 by omega), hC.1 q hq, nmE, nmE]
    rfl
  by_cases h : v < C q
  · refine ⟨_, 1, fun g g1 g2 => ?_, ⟨fun x hx => ?_, fun x => Nat.le_trans (rlx_le x) (hC.2.1 x), zr_eq⟩, Or.inl ⟨rfl, q, hq, by rw [rlx_e, if_pos h]; exact h⟩, hun.trans (if_pos (nI_lt h (by omega)))⟩
    · rw [zs_ne g2, zs_ne g1]; exact hz g g1 g2
    · rw [zr_ne (by omega)]
      by_cases e : x = q
      · subst e; rw [zr_eq, rlx_e, if_pos h]
      · rw [zr_ni (fun c => e (tau_inj hq hx c)), rlx_n e]; exact hC.1 x hx
  · have he : rlx C q v = C := by
      funext x
      by_cases e : x = q
      · subst e; rw [rlx_e, if_neg h]
      · exact rlx_n e
    refine ⟨z, fl, hz, ?_, Or.inr ⟨rfl, he⟩, hun.trans (if_neg (nI_nlt (by omega) (by omega)))⟩
    rw [he]; exact hC
/-- all acts from a state -/
theorem m_from {Z0 z : zT} {C : Nat → Nat} {fl s h t : Nat} (hz : fr46 Z0 z) (hC : CZ z C fl) (hs : s < 216) (h9 : h ≤ 9) (ht : t ≤ 1) :
    ∃ z' C' fl', fr46 Z0 z' ∧ CZ z' C' fl' ∧ RL h t s C C' ∧ SP C fl C' fl' ∧ (∀ q w, suc h t s q w → C' q ≤ C s + w) ∧ fX4_errandFrom z (nI (tau s)) (nI h) (nI t) = some z' := by
  obtain ⟨_, _, t1, _, t2, t3, t4⟩ := ta_k ⟨s, hs⟩
  have t1 : tau s < 216 := t1
  have t2 : tau s % 27 = pl s := t2
  have t3 : tau s / 27 = ck s := t3
  have t4 : pl s < 27 := t4
  obtain ⟨c0, c1, c2, c3, c4⟩ := comp_k hs
  have hinner : ∀ (x : Nat) (J : zT → Option zT) z C0 fl0, x < 3 → fr46 Z0 z → CZ z C0 fl0 → ∃ z' C' fl', fr46 Z0 z' ∧ CZ z' C' fl' ∧ RL h t s C0 C' ∧ SP C0 fl0 C' fl' ∧ (∀ k, k < 3 → k ≠ cu x s → C' (rp x k s) ≤ C0 s + h) ∧
      it1 (lX4_errandFrom_24 (nI (tau s)) (nI h) (nI (pl s)) (nI (ck s)) (nI x) J) FU z (nI 0) = J z' := by
    intro x J z C0 fl0 hx hz hC0
    refine it1_up (Q := fun o => ∃ z' C' fl', fr46 Z0 z' ∧ CZ z' C' fl' ∧ RL h t s C0 C' ∧ SP C0 fl0 C' fl' ∧ (∀ k, k < 3 → k ≠ cu x s → C' (rp x k s) ≤ C0 s + h) ∧ o = J z') (N := 3)
      (fun k z => ∃ C' fl', fr46 Z0 z ∧ CZ z C' fl' ∧ RL h t s C0 C' ∧ SP C0 fl0 C' fl' ∧ (∀ j, j < k → j ≠ cu x s → C' (rp x j s) ≤ C0 s + h)) ?_ ?_ (F := FU) (FU_lt (by omega)) ⟨C0, fl0, hz, hC0, RL_id, Or.inr ⟨rfl, rfl⟩, fun j hj => absurd hj (Nat.not_lt_zero _)⟩
    · rintro kk k z hk ⟨C', fl', hz', hC', hR, hS, hcov⟩
      have hk1 : nI k + (1 : Int32) = nI (k + 1) := nI_1 k
      obtain ⟨g1, g2, g3, g4, _⟩ := rp_k ⟨s, hs⟩ ⟨x, hx⟩ ⟨k, hk⟩
      have g1 : rp x k s < 216 := g1
      have g2 : tau (rp x k s) = 27 * ck s + pl (rp x k s) := g2
      have g3 : mb (pl s) x = cu x s := g3
      have g4 : cu x s < 3 := g4
      have e1 := hR.2.2
      have hb := hC'.2.1 s
      have hun : lX4_errandFrom_24 (nI (tau s)) (nI h) (nI (pl s)) (nI (ck s)) (nI x) J kk z (nI k) = if nI k = nI (cu x s) then kk z (nI (k + 1)) else bd (fX4_comes z (nI (tau (rp x k s))) (nI (C' s + h))) fun z' => kk z' (nI (k + 1)) := by
        unfold lX4_errandFrom_24
        rw [if_neg (show ¬ (3 : Int32) ≤ nI k from nI_ge (b := 3) hk (by omega)), m_mem t4 hx, bd_s, njE, g3, m_moved hs hx hk, bd_s, gd_of (inb_t (show tau s < 46656 by omega) (by omega)), ni_ix (show tau s < 2147483648 by omega), hC'.1 s hs, ni_add, show (27 : Int32) * nI (ck s) = nI (27 * ck s) from ni_mul 27 _, ni_add, ← g2]
        dsimp only
        simp only [nmE, hk1]
      by_cases e : k = cu x s
      · refine ⟨z, hun.trans (if_pos (congrArg nI e)), C', fl', hz', hC', hR, hS, fun j hj hjn => ?_⟩
        rcases Nat.lt_or_ge j k with c | c
        · exact hcov j c hjn
        · obtain rfl : j = k := by omega
          exact absurd e hjn
      · obtain ⟨z2, f2, a1, a2, a3, a4⟩ := m_comes hz' hC' g1 (show C' s + h ≤ 1000100 by omega)
        have r1 : RL h t s C' (rlx C' (rp x k s) (C' s + h)) := RL_one (rp_suc hx hk e)
        refine ⟨z2, ?_, _, f2, a1, a2, RL_tr hR r1, SP_tr hS hR.1 a3, fun j hj hjn => ?_⟩
        · rw [hun, if_neg (ni_ne e (by omega) (by omega)), a4, bd_s]
        · rcases Nat.lt_or_ge j k with c | c
          · exact Nat.le_trans (r1.1 _) (hcov j c hjn)
          · obtain rfl : j = k := by omega
            rw [← e1]
            exact rlx_v
    · rintro kk z ⟨C', fl', hz', hC', hR, hS, hcov⟩
      exact ⟨z, C', fl', hz', hC', hR, hS, hcov, if_pos (by decide)⟩
  have houter : ∀ J : zT → Option zT, ∃ z' C' fl', fr46 Z0 z' ∧ CZ z' C' fl' ∧ RL h t s C C' ∧ SP C fl C' fl' ∧ (∀ x, x < 3 → ∀ k, k < 3 → k ≠ cu x s → C' (rp x k s) ≤ C s + h) ∧
      it1 (lX4_errandFrom_15 (nI (tau s)) (nI h) (nI (pl s)) (nI (ck s)) J) FU z (nI 0) = J z' := by
    intro J
    refine it1_up (Q := fun o => ∃ z' C' fl', fr46 Z0 z' ∧ CZ z' C' fl' ∧ RL h t s C C' ∧ SP C fl C' fl' ∧ (∀ x, x < 3 → ∀ k, k < 3 → k ≠ cu x s → C' (rp x k s) ≤ C s + h) ∧ o = J z') (N := 3)
      (fun x z => ∃ C' fl', fr46 Z0 z ∧ CZ z C' fl' ∧ RL h t s C C' ∧ SP C fl C' fl' ∧ (∀ y, y < x → ∀ k, k < 3 → k ≠ cu y s → C' (rp y k s) ≤ C s + h)) ?_ ?_ (F := FU) (FU_lt (by omega)) ⟨C, fl, hz, hC, RL_id, Or.inr ⟨rfl, rfl⟩, fun j hj => absurd hj (Nat.not_lt_zero _)⟩
    · rintro kk x z hx ⟨C', fl', hz', hC', hR, hS, hcov⟩
      have hx1 : nI x + (1 : Int32) = nI (x + 1) := nI_1 x
      obtain ⟨z2, C2, f2, a1, a2, a3, a4, a5, a6⟩ := hinner x (fun (Z77 : zT) => kk Z77 (nI (x + 1))) z C' fl' hx hz' hC'
      refine ⟨z2, ?_, C2, f2, a1, a2, RL_tr hR a3, SP_tr hS hR.1 a4, fun y hy k hk hkn => ?_⟩
      · unfold lX4_errandFrom_15
        rw [if_neg (show ¬ (3 : Int32) ≤ nI x from nI_ge (b := 3) hx (by omega)), njE, njE]
        simp only [nmE, hx1]
        exact a6
      · rcases Nat.lt_or_ge y x with c | c
        · exact Nat.le_trans (a3.1 _) (hcov y c k hk hkn)
        · obtain rfl : y = x := by omega
          rw [← hR.2.2]
          exact a5 k hk hkn
    · rintro kk z ⟨C', fl', hz', hC', hR, hS, hcov⟩
      exact ⟨z, C', fl', hz', hC', hR, hS, hcov, if_pos (by decide)⟩
  obtain ⟨z1, C1, f1, a1, a2, a3, a4, a5, a6⟩ := houter (fun (Z83 : zT) =>
    bd (fX4_memberOf Z83 (nI (pl s)) (0 : Int32)) fun (r_4 : Int32) =>
    gd (inb (nI (tau s)) 46656) <|
    bd (fX4_comes Z83 (((27 : Int32) * (nI (ck s) ||| (js (1 : Int32) r_4))) + nI (pl s)) ((Z83 46 (ix (nI (tau s)))) + nI t)) fun (Z_7 : zT) =>
    bd (fX4_memberOf Z_7 (nI (pl s)) (2 : Int32)) fun (r_9 : Int32) =>
    if ((jsr (nI (ck s)) r_9) &&& (1 : Int32)) = (1 : Int32) then (
      bd (fX4_memberOf Z_7 (nI (pl s)) (1 : Int32)) fun (r_12 : Int32) =>
      bd (fX4_comes Z_7 (((27 : Int32) * (nI (ck s) ||| (js (1 : Int32) r_12))) + nI (pl s)) ((Z_7 46 (ix (nI (tau s)))) + nI t)) fun (Z_14 : zT) =>
      some Z_14)
    else (
      some Z_7))
  have p1 : 2 ^ ce s < 8 := Nat.pow_lt_pow_right (a := 2) (m := ce s) (n := 3) (by omega) c0
  have p2 : 2 ^ cr s < 8 := Nat.pow_lt_pow_right (a := 2) (m := cr s) (n := 3) (by omega) c1
  have o1 : ck s ||| 2 ^ ce s < 8 := Nat.or_lt_two_pow (n := 3) c3 p1
  have o2 : ck s ||| 2 ^ cr s < 8 := Nat.or_lt_two_pow (n := 3) c3 p2
  have l1 : mk (ce s) (cr s) (co s) (ck s ||| 2 ^ ce s) < 216 := by unfold mk; omega
  have l2 : mk (ce s) (cr s) (co s) (ck s ||| 2 ^ cr s) < 216 := by unfold mk; omega
  have tm : ∀ k, k < 8 → tau (mk (ce s) (cr s) (co s) k) = 27 * k + pl s := by
    intro k hk
    unfold tau pl
    generalize ce s = e at *
    generalize cr s = r at *
    generalize co s = o at *
    unfold ck ce cr co mk
    omega
  have j1 : (27 : Int32) * (nI (ck s) ||| js (1 : Int32) (nI (ce s))) + nI (pl s) = nI (tau (mk (ce s) (cr s) (co s) (ck s ||| 2 ^ ce s))) := by
    rw [show js (1 : Int32) (nI (ce s)) = nI (2 ^ ce s) from js_2 (by omega), ni_or, show (27 : Int32) * nI (ck s ||| 2 ^ ce s) = nI (27 * (ck s ||| 2 ^ ce s)) from ni_mul 27 _, ni_add, tm _ o1]
  have j2 : (27 : Int32) * (nI (ck s) ||| js (1 : Int32) (nI (cr s))) + nI (pl s) = nI (tau (mk (ce s) (cr s) (co s) (ck s ||| 2 ^ cr s))) := by
    rw [show js (1 : Int32) (nI (cr s)) = nI (2 ^ cr s) from js_2 (by omega), ni_or, show (27 : Int32) * nI (ck s ||| 2 ^ cr s) = nI (27 * (ck s ||| 2 ^ cr s)) from ni_mul 27 _, ni_add, tm _ o2]
  have tb := tb_i (a := ck s) (k := co s) (by omega) (by omega)
  have mm : ∀ Z : zT, fX4_memberOf Z (nI (pl s)) (0 : Int32) = some (nI (ce s)) ∧ fX4_memberOf Z (nI (pl s)) (1 : Int32) = some (nI (cr s)) ∧ fX4_memberOf Z (nI (pl s)) (2 : Int32) = some (nI (co s)) := by
    intro Z
    have g0 := (rp_k ⟨s, hs⟩ ⟨0, by omega⟩ ⟨0, by omega⟩).2.2.1
    have g1 := (rp_k ⟨s, hs⟩ ⟨1, by omega⟩ ⟨0, by omega⟩).2.2.1
    have g2 := (rp_k ⟨s, hs⟩ ⟨2, by omega⟩ ⟨0, by omega⟩).2.2.1
    have g0 : mb (pl s) 0 = ce s := g0
    have g1 : mb (pl s) 1 = cr s := g1
    have g2 : mb (pl s) 2 = co s := g2
    exact ⟨(m_mem (k := 0) t4 (by omega)).trans (by rw [g0]), (m_mem (k := 1) t4 (by omega)).trans (by rw [g1]), (m_mem (k := 2) t4 (by omega)).trans (by rw [g2])⟩
  have q1 := a3.2.2
  have b1 := a2.2.1 s
  obtain ⟨z2, f2, d1, d2, d3, d4⟩ := m_comes a1 a2 l1 (show C1 s + t ≤ 1000100 by omega)
  have r2 : RL h t s C1 (rlx C1 (mk (ce s) (cr s) (co s) (ck s ||| 2 ^ ce s)) (C1 s + t)) := RL_one (Or.inr (Or.inr (Or.inr (Or.inl ⟨rfl, rfl⟩))))
  have q2 := r2.2.2
  have hun : fX4_errandFrom z (nI (tau s)) (nI h) (nI t) = if ((jsr (nI (ck s)) (nI (co s))) &&& (1 : Int32)) = (1 : Int32) then (
      bd (fX4_comes z2 (nI (tau (mk (ce s) (cr s) (co s) (ck s ||| 2 ^ cr s)))) (nI (C1 s + t))) fun (Z_14 : zT) =>
      some Z_14)
    else (
      some z2) := by
    unfold fX4_errandFrom
    rw [show jr (nI (tau s)) (27 : Int32) = nI (pl s) from by rw [← t2]; exact ni_rem (d := 27) (by omega) (by omega) (by omega), show nI (tau s) / (27 : Int32) = nI (ck s) from by rw [← t3]; exact ni_div (d := 27) (by omega) (by omega) (by omega), nmE, nmE, njE, njE]
    refine Eq.trans a6 ?_
    rw [(mm z1).1, bd_s, gd_of (inb_t (show tau s < 46656 by omega) (by omega)), ni_ix (show tau s < 2147483648 by omega), a2.1 s hs, ni_add, j1, d4, bd_s, (mm z2).2.2, bd_s, (mm z2).2.1, bd_s, j2, d2.1 s hs, q2, ni_add]
  by_cases hb : (ck s).testBit (co s) = true
  · rw [if_pos hb] at tb
    obtain ⟨z3, f3, e1, e2, e3, e4⟩ := m_comes d1 d2 l2 (show C1 s + t ≤ 1000100 by omega)
    have r3 : RL h t s (rlx C1 (mk (ce s) (cr s) (co s) (ck s ||| 2 ^ ce s)) (C1 s + t)) (rlx (rlx C1 (mk (ce s) (cr s) (co s) (ck s ||| 2 ^ ce s)) (C1 s + t)) (mk (ce s) (cr s) (co s) (ck s ||| 2 ^ cr s)) (C1 s + t)) := by
      have := RL_one (C := rlx C1 (mk (ce s) (cr s) (co s) (ck s ||| 2 ^ ce s)) (C1 s + t)) (h := h) (t := t) (s := s) (q := mk (ce s) (cr s) (co s) (ck s ||| 2 ^ cr s)) (w := t) (Or.inr (Or.inr (Or.inr (Or.inr ⟨hb, rfl, rfl⟩))))
      rw [q2] at this
      exact this
    refine ⟨z3, _, f3, e1, e2, RL_tr (RL_tr a3 r2) r3, SP_tr (SP_tr a4 a3.1 d3) (RL_tr a3 r2).1 e3, fun q w hq => ?_, ?_⟩
    · rcases hq with ⟨x, g1, g2, rfl, rfl⟩ | ⟨x, g1, g2, rfl, rfl⟩ | ⟨x, g1, g2, rfl, rfl⟩ | ⟨rfl, rfl⟩ | ⟨g, rfl, rfl⟩
      · exact Nat.le_trans (Nat.le_trans (r3.1 _) (r2.1 _)) (a5 0 (by omega) x g1 g2)
      · exact Nat.le_trans (Nat.le_trans (r3.1 _) (r2.1 _)) (a5 1 (by omega) x g1 g2)
      · exact Nat.le_trans (Nat.le_trans (r3.1 _) (r2.1 _)) (a5 2 (by omega) x g1 g2)
      · rw [← q1]; exact Nat.le_trans (r3.1 _) rlx_v
      · rw [← q1]; exact rlx_v
    · rw [hun, if_pos (by show jsr (nI (ck s)) (nI (co s)) &&& nI 1 = (1 : Int32); rw [tb]; rfl), e4, bd_s]
  · rw [if_neg hb] at tb
    refine ⟨z2, _, f2, d1, d2, RL_tr a3 r2, SP_tr a4 a3.1 d3, fun q w hq => ?_, ?_⟩
    · rcases hq with ⟨x, g1, g2, rfl, rfl⟩ | ⟨x, g1, g2, rfl, rfl⟩ | ⟨x, g1, g2, rfl, rfl⟩ | ⟨rfl, rfl⟩ | ⟨g, rfl, rfl⟩
      · exact Nat.le_trans (r2.1 _) (a5 0 (by omega) x g1 g2)
      · exact Nat.le_trans (r2.1 _) (a5 1 (by omega) x g1 g2)
      · exact Nat.le_trans (r2.1 _) (a5 2 (by omega) x g1 g2)
      · rw [← q1]; exact rlx_v
      · exact absurd g hb
    · rw [hun, if_neg (by show ¬ jsr (nI (ck s)) (nI (co s)) &&& nI 1 = (1 : Int32); rw [tb]; decide)]
