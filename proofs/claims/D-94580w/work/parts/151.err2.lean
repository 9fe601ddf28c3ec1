/-! LAYER 2: errands: OneEye's acts -/
theorem comp_k {s : Nat} (hs : s < 216) : ce s < 3 ∧ cr s < 3 ∧ co s < 3 ∧ ck s < 8 ∧ mk (ce s) (cr s) (co s) (ck s) = s := by
  unfold ce cr co ck mk
  omega
theorem e_memI {s : Nat} (hs : s < 216) : fX0_memberIn (nI s) (0 : Int32) = some (nI (ce s)) ∧ fX0_memberIn (nI s) (1 : Int32) = some (nI (cr s)) ∧ fX0_memberIn (nI s) (2 : Int32) = some (nI (co s)) := by
  unfold fX0_memberIn ce cr co
  refine ⟨?_, ?_, ?_⟩
  · rw [if_pos rfl, show nI s / (72 : Int32) = nI (s / 72) from ni_div (d := 72) (by omega) (by omega) (by omega)]
  · rw [if_neg (by decide), if_pos rfl, show nI s / (24 : Int32) = nI (s / 24) from ni_div (d := 24) (by omega) (by omega) (by omega), show jr (nI (s / 24)) (3 : Int32) = nI (s / 24 % 3) from ni_rem (d := 3) (by omega) (by omega) (by omega)]
  · rw [if_neg (by decide), if_neg (by decide), show nI s / (8 : Int32) = nI (s / 8) from ni_div (d := 8) (by omega) (by omega) (by omega), show jr (nI (s / 8)) (3 : Int32) = nI (s / 8 % 3) from ni_rem (d := 3) (by omega) (by omega) (by omega)]
theorem e_stBy (e r o k : Nat) : fX0_stateBy (nI e) (nI r) (nI o) (nI k) = some (nI (mk e r o k)) := by
  unfold fX0_stateBy mk
  rw [show (72 : Int32) * nI e = nI (72 * e) from ni_mul 72 e, show (24 : Int32) * nI r = nI (24 * r) from ni_mul 24 r, show (8 : Int32) * nI o = nI (8 * o) from ni_mul 8 o, ni_add, ni_add, ni_add]
/-- costs in OneEye's memory -/
def CM (Y : zT) (C : Nat → Nat) : Prop := (∀ q, q < 216 → Y 207 q = nI (C q)) ∧ ∀ q, C q ≤ 1000000
theorem CM_rlx {Y : zT} {C : Nat → Nat} {q v : Nat} (h : CM Y C) : CM (zset Y 207 q (nI (rlx C q v q))) (rlx C q v) := by
  refine ⟨fun x hx => ?_, fun x => Nat.le_trans (rlx_le x) (h.2 x)⟩
  by_cases e : x = q
  · subst e; rw [zr_eq]
  · rw [zr_ni e, rlx_n e]; exact h.1 x hx
theorem e_reach {a : Nat} {S : sT} {P : pT} {Y I : zT} {C : Nat → Nat} {q v : Nat} (hA : LA S P a) (hq : q < 216) (hv : v ≤ 1000100) (hC : CM Y C) : fX0_reaches S P (enc a Y I) a (nI q) (nI v) = some (enc a (zset Y 207 q (nI (rlx C q v q))) I) := by
  have h1 := hC.2 q
  unfold fX0_reaches
  rw [gd_of (LA_ka hA), LA_p7 hA, bd_s, gd_of (LA_k7 hA), LA_n7 hA, gd_of (inb_t hq (by omega)), ni_ix (by omega), nmE, er_co hq, hC.1 q hq, jmin_n (by omega) (by omega), ew_co hq, rlx_e]
/-- one hand-over, if it is one -/
theorem e_mv {a s q x y h t : Nat} {S : sT} {P : pT} {Y I : zT} {C : Nat → Nat} {st : Option Int32} (hA : LA S P a) (hs : s < 216) (hq : q < 216) (hx : x < 3) (hy : y < 3) (hh : h ≤ 9) (hsuc : x ≠ y → suc h t s q h) (hst : st = some (nI q)) (hC : CM Y C) :
    ∃ Y1 C1, (∀ g, g ≠ 207 → Y1 g = Y g) ∧ CM Y1 C1 ∧ RL h t s C C1 ∧ (x ≠ y → C1 q ≤ C s + h) ∧ ∀ j : zT → Option zT, (if nI x = nI y then j (enc a Y I) else bd st fun (r_43 : Int32) =>
      gd (isk S a 1) <|
      bd (P a 7) fun (b_45 : Nat) =>
      gd (isk S b_45 20) <|
      gd (inb (nI s) (S b_45).2) <|
      bd (fX0_reaches S P (enc a Y I) a r_43 ((enc a Y I b_45 (ix (nI s))) + nI h)) fun (I_49 : zT) =>
      j I_49) = j (enc a Y1 I) := by
  by_cases e : x = y
  · exact ⟨Y, C, fun _ _ => rfl, hC, RL_id, fun c => absurd e c, fun j => if_pos (congrArg nI e)⟩
  · refine ⟨zset Y 207 q (nI (rlx C q (C s + h) q)), rlx C q (C s + h), fun g hg => zs_ne hg, CM_rlx hC, RL_one (hsuc e), fun _ => rlx_v, fun j => ?_⟩
    have h1 := hC.2 s
    rw [if_neg (ni_ne e (by omega) (by omega)), hst, bd_s, gd_of (LA_ka hA), LA_p7 hA, bd_s, gd_of (LA_k7 hA), LA_n7 hA, gd_of (inb_t hs (by omega)), ni_ix (by omega), er_co hs, hC.1 s hs, ni_add, e_reach hA hq (by omega) hC, bd_s]
theorem e_acts {a s h t : Nat} {S : sT} {P : pT} {Y I : zT} {C : Nat → Nat} (hA : LA S P a) (hs : s < 216) (hh : h ≤ 9) (ht : t ≤ 1) (hC : CM Y C) :
    ∃ Y' C', (∀ g, g ≠ 207 → Y' g = Y g) ∧ CM Y' C' ∧ RL h t s C C' ∧ (∀ q w, suc h t s q w → C' q ≤ C s + w) ∧ fX0_acts S P (enc a Y I) a (nI s) (nI h) (nI t) = some (enc a Y' I) := by
  obtain ⟨m0, m1, m2⟩ := e_memI hs
  obtain ⟨c0, c1, c2, c3, c4⟩ := comp_k hs
  have hlt : ∀ x, x < 3 → mk x (cr s) (co s) (ck s) < 216 ∧ mk (ce s) x (co s) (ck s) < 216 ∧ mk (ce s) (cr s) x (ck s) < 216 := fun x hx => by unfold mk; omega
  have hrem : jr (nI s) (8 : Int32) = nI (ck s) := ni_rem (d := 8) (by omega) (by omega) (by omega)
  have hloop : ∀ J : zT → Option zT, ∃ Y' C', (∀ g, g ≠ 207 → Y' g = Y g) ∧ CM Y' C' ∧ RL h t s C C' ∧ (∀ x, x < 3 → (x ≠ ce s → C' (mk x (cr s) (co s) (ck s)) ≤ C s + h) ∧ (x ≠ cr s → C' (mk (ce s) x (co s) (ck s)) ≤ C s + h) ∧ (x ≠ co s → C' (mk (ce s) (cr s) x (ck s)) ≤ C s + h)) ∧
      it1 (lX0_acts_30 S P a (nI s) (nI h) (nI (ce s)) (nI (cr s)) (nI (co s)) (nI (ck s)) J) FU (enc a Y I) (nI 0) = J (enc a Y' I) := by
    intro J
    refine it1_up (Q := fun o => ∃ Y' C', (∀ g, g ≠ 207 → Y' g = Y g) ∧ CM Y' C' ∧ RL h t s C C' ∧ (∀ x, x < 3 → (x ≠ ce s → C' (mk x (cr s) (co s) (ck s)) ≤ C s + h) ∧ (x ≠ cr s → C' (mk (ce s) x (co s) (ck s)) ≤ C s + h) ∧ (x ≠ co s → C' (mk (ce s) (cr s) x (ck s)) ≤ C s + h)) ∧ o = J (enc a Y' I)) (N := 3)
      (fun k I' => ∃ Y' C', I' = enc a Y' I ∧ (∀ g, g ≠ 207 → Y' g = Y g) ∧ CM Y' C' ∧ RL h t s C C' ∧ (∀ x, x < k → (x ≠ ce s → C' (mk x (cr s) (co s) (ck s)) ≤ C s + h) ∧ (x ≠ cr s → C' (mk (ce s) x (co s) (ck s)) ≤ C s + h) ∧ (x ≠ co s → C' (mk (ce s) (cr s) x (ck s)) ≤ C s + h))) ?_ ?_ (F := FU) (FU_lt (by omega)) ⟨Y, C, rfl, fun _ _ => rfl, hC, RL_id, fun x hx => absurd hx (Nat.not_lt_zero _)⟩
    · rintro kk k _ hk ⟨Y', C', rfl, hy, hC', hR, hcov⟩
      obtain ⟨l1, l2, l3⟩ := hlt k hk
      obtain ⟨Y1, C1, a1, a2, a3, a4, a5⟩ := e_mv (I := I) (h := h) (t := t) (y := ce s) hA hs l1 hk c0 hh (fun e => Or.inl ⟨k, hk, e, rfl, rfl⟩) (e_stBy k (cr s) (co s) (ck s)) hC'
      obtain ⟨Y2, C2, b1, b2, b3, b4, b5⟩ := e_mv (I := I) (h := h) (t := t) (y := cr s) hA hs l2 hk c1 hh (fun e => Or.inr (Or.inl ⟨k, hk, e, rfl, rfl⟩)) (e_stBy (ce s) k (co s) (ck s)) a2
      obtain ⟨Y3, C3, d1, d2, d3, d4, d5⟩ := e_mv (I := I) (h := h) (t := t) (y := co s) hA hs l3 hk c2 hh (fun e => Or.inr (Or.inr (Or.inl ⟨k, hk, e, rfl, rfl⟩))) (e_stBy (ce s) (cr s) k (ck s)) b2
      have hk1 : nI k + (1 : Int32) = nI (k + 1) := nI_1 k
      refine ⟨enc a Y3 I, ?_, Y3, C3, rfl, fun g hg => by rw [d1 g hg, b1 g hg, a1 g hg, hy g hg], d2, RL_tr (RL_tr (RL_tr hR a3) b3) d3, fun x hx => ?_⟩
      · unfold lX0_acts_30
        rw [if_neg (show ¬ (3 : Int32) ≤ nI k from nI_ge (b := 3) hk (by omega)), njE]
        refine Eq.trans (a5 _) ?_
        rw [njE]
        refine Eq.trans (b5 _) ?_
        rw [njE]
        refine Eq.trans (d5 _) ?_
        rw [nmE, hk1]
      · have e1 := hR.2.2
        have e2 := a3.2.2
        have e3 := b3.2.2
        rcases Nat.lt_or_ge x k with c | c
        · obtain ⟨q1, q2, q3⟩ := hcov x c
          refine ⟨fun e => ?_, fun e => ?_, fun e => ?_⟩
          · exact Nat.le_trans (Nat.le_trans (d3.1 _) (Nat.le_trans (b3.1 _) (a3.1 _))) (q1 e)
          · exact Nat.le_trans (Nat.le_trans (d3.1 _) (Nat.le_trans (b3.1 _) (a3.1 _))) (q2 e)
          · exact Nat.le_trans (Nat.le_trans (d3.1 _) (Nat.le_trans (b3.1 _) (a3.1 _))) (q3 e)
        · obtain rfl : x = k := by omega
          refine ⟨fun e => ?_, fun e => ?_, fun e => ?_⟩
          · have := a4 e
            rw [e1] at this
            exact Nat.le_trans (Nat.le_trans (d3.1 _) (b3.1 _)) this
          · have := b4 e
            rw [e2, e1] at this
            exact Nat.le_trans (d3.1 _) this
          · have := d4 e
            rw [e3, e2, e1] at this
            exact this
    · rintro kk _ ⟨Y', C', rfl, hy, hC', hR, hcov⟩
      exact ⟨Y', C', hy, hC', hR, hcov, if_pos (by decide)⟩
  have p1 : 2 ^ ce s < 8 := Nat.pow_lt_pow_right (a := 2) (m := ce s) (n := 3) (by omega) c0
  have p2 : 2 ^ cr s < 8 := Nat.pow_lt_pow_right (a := 2) (m := cr s) (n := 3) (by omega) c1
  have o1 : ck s ||| 2 ^ ce s < 8 := Nat.or_lt_two_pow (n := 3) c3 p1
  have o2 : ck s ||| 2 ^ cr s < 8 := Nat.or_lt_two_pow (n := 3) c3 p2
  have l1 : mk (ce s) (cr s) (co s) (ck s ||| 2 ^ ce s) < 216 := by unfold mk; omega
  have l2 : mk (ce s) (cr s) (co s) (ck s ||| 2 ^ cr s) < 216 := by unfold mk; omega
  have j1 : nI (ck s) ||| js (1 : Int32) (nI (ce s)) = nI (ck s ||| 2 ^ ce s) := by rw [show js (1 : Int32) (nI (ce s)) = nI (2 ^ ce s) from js_2 (by omega), ni_or]
  have j2 : nI (ck s) ||| js (1 : Int32) (nI (cr s)) = nI (ck s ||| 2 ^ cr s) := by rw [show js (1 : Int32) (nI (cr s)) = nI (2 ^ cr s) from js_2 (by omega), ni_or]
  have tb := tb_i (a := ck s) (k := co s) (by omega) (by omega)
  unfold fX0_acts
  rw [m0, bd_s, m1, bd_s, m2, bd_s, hrem, nmE, njE, njE]
  obtain ⟨Y1, C1, a1, a2, a3, a4, a5⟩ := hloop (fun (I132 : zT) =>
    bd (fX0_stateBy (nI (ce s)) (nI (cr s)) (nI (co s)) (nI (ck s) ||| (js (1 : Int32) (nI (ce s))))) fun (r_9 : Int32) =>
    gd (isk S a 1) <|
    bd (P a 7) fun (b_11 : Nat) =>
    gd (isk S b_11 20) <|
    gd (inb (nI s) (S b_11).2) <|
    bd (fX0_reaches S P I132 a r_9 ((I132 b_11 (ix (nI s))) + (nI t))) fun (I_15 : zT) =>
    if ((jsr (nI (ck s)) (nI (co s))) &&& (1 : Int32)) = (1 : Int32) then (
      bd (fX0_stateBy (nI (ce s)) (nI (cr s)) (nI (co s)) (nI (ck s) ||| (js (1 : Int32) (nI (cr s))))) fun (r_18 : Int32) =>
      bd (fX0_reaches S P I_15 a r_18 ((I_15 b_11 (ix (nI s))) + (nI t))) fun (I_20 : zT) =>
      some I_20)
    else (
      some I_15))
  have q1 := a3.2.2
  have b1 := a2.2 s
  have hC2 := CM_rlx (q := mk (ce s) (cr s) (co s) (ck s ||| 2 ^ ce s)) (v := C1 s + t) a2
  have r2 : RL h t s C1 (rlx C1 (mk (ce s) (cr s) (co s) (ck s ||| 2 ^ ce s)) (C1 s + t)) := RL_one (Or.inr (Or.inr (Or.inr (Or.inl ⟨rfl, rfl⟩))))
  have q2 := r2.2.2
  have hrun : fX0_reaches S P (enc a Y1 I) a (nI (mk (ce s) (cr s) (co s) (ck s ||| 2 ^ ce s))) (nI (C1 s + t)) = _ := e_reach hA l1 (by omega) a2
  by_cases hb : (ck s).testBit (co s) = true
  · rw [if_pos hb] at tb
    have hC3 := CM_rlx (q := mk (ce s) (cr s) (co s) (ck s ||| 2 ^ cr s)) (v := C1 s + t) hC2
    have r3 : RL h t s (rlx C1 (mk (ce s) (cr s) (co s) (ck s ||| 2 ^ ce s)) (C1 s + t)) (rlx (rlx C1 (mk (ce s) (cr s) (co s) (ck s ||| 2 ^ ce s)) (C1 s + t)) (mk (ce s) (cr s) (co s) (ck s ||| 2 ^ cr s)) (C1 s + t)) := by
      have := RL_one (C := rlx C1 (mk (ce s) (cr s) (co s) (ck s ||| 2 ^ ce s)) (C1 s + t)) (h := h) (t := t) (s := s) (q := mk (ce s) (cr s) (co s) (ck s ||| 2 ^ cr s)) (w := t) (Or.inr (Or.inr (Or.inr (Or.inr ⟨hb, rfl, rfl⟩))))
      rw [q2] at this
      exact this
    refine ⟨_, _, fun g hg => ?_, hC3, RL_tr (RL_tr a3 r2) r3, fun q w hq => ?_, ?_⟩
    · rw [zs_ne hg, zs_ne hg]; exact a1 g hg
    · rcases hq with ⟨x, g1, g2, rfl, rfl⟩ | ⟨x, g1, g2, rfl, rfl⟩ | ⟨x, g1, g2, rfl, rfl⟩ | ⟨rfl, rfl⟩ | ⟨g, rfl, rfl⟩
      · exact Nat.le_trans (Nat.le_trans (r3.1 _) (r2.1 _)) ((a4 x g1).1 g2)
      · exact Nat.le_trans (Nat.le_trans (r3.1 _) (r2.1 _)) ((a4 x g1).2.1 g2)
      · exact Nat.le_trans (Nat.le_trans (r3.1 _) (r2.1 _)) ((a4 x g1).2.2 g2)
      · rw [← q1]; exact Nat.le_trans (r3.1 _) rlx_v
      · rw [← q1]; exact rlx_v
    · refine Eq.trans a5 ?_
      rw [j1, e_stBy, bd_s, gd_of (LA_ka hA), LA_p7 hA, bd_s, gd_of (LA_k7 hA), LA_n7 hA, gd_of (inb_t hs (by omega)), ni_ix (show s < 2147483648 by omega), er_co hs, a2.1 s hs, ni_add, hrun, bd_s, if_pos (by show jsr (nI (ck s)) (nI (co s)) &&& nI 1 = (1 : Int32); rw [tb]; rfl), j2, e_stBy, bd_s, er_co hs, hC2.1 s hs, ni_add, q2, e_reach hA l2 (by omega) hC2, bd_s]
  · rw [if_neg hb] at tb
    refine ⟨_, _, fun g hg => ?_, hC2, RL_tr a3 r2, fun q w hq => ?_, ?_⟩
    · rw [zs_ne hg]; exact a1 g hg
    · rcases hq with ⟨x, g1, g2, rfl, rfl⟩ | ⟨x, g1, g2, rfl, rfl⟩ | ⟨x, g1, g2, rfl, rfl⟩ | ⟨rfl, rfl⟩ | ⟨g, rfl, rfl⟩
      · exact Nat.le_trans (r2.1 _) ((a4 x g1).1 g2)
      · exact Nat.le_trans (r2.1 _) ((a4 x g1).2.1 g2)
      · exact Nat.le_trans (r2.1 _) ((a4 x g1).2.2 g2)
      · rw [← q1]; exact rlx_v
      · exact absurd g hb
    · refine Eq.trans a5 ?_
      rw [j1, e_stBy, bd_s, gd_of (LA_ka hA), LA_p7 hA, bd_s, gd_of (LA_k7 hA), LA_n7 hA, gd_of (inb_t hs (by omega)), ni_ix (show s < 2147483648 by omega), er_co hs, a2.1 s hs, ni_add, hrun, bd_s, if_neg (by show ¬ jsr (nI (ck s)) (nI (co s)) &&& nI 1 = (1 : Int32); rw [tb]; decide)]
