/-! LAYER 2: errands: OneEyeModel's search, the operation -/
def sumc (C : Nat → Nat) : Nat → Nat
  | 0 => 0
  | k + 1 => sumc C k + C k
theorem sumc_le {C : Nat → Nat} (h : ∀ q, C q ≤ 1000000) (k : Nat) : sumc C k ≤ 1000000 * k := by
  induction k with
  | zero => exact Nat.le_refl _
  | succ k ih =>
    have := h k
    show sumc C k + C k ≤ _
    omega
theorem sumc_mono {C C' : Nat → Nat} (h : ∀ q, C' q ≤ C q) (k : Nat) : sumc C' k ≤ sumc C k := by
  induction k with
  | zero => exact Nat.le_refl _
  | succ k ih =>
    have := h k
    show sumc C' k + C' k ≤ sumc C k + C k
    omega
theorem sumc_lt {C C' : Nat → Nat} (h : ∀ q, C' q ≤ C q) {k q : Nat} (hq : q < k) (hlt : C' q < C q) : sumc C' k < sumc C k := by
  induction k with
  | zero => exact absurd hq (Nat.not_lt_zero _)
  | succ k ih =>
    show sumc C' k + C' k < sumc C k + C k
    by_cases e : q = k
    · subst e
      have := sumc_mono h q
      omega
    · have := ih (by omega)
      have := h k
      omega
def clsd (h t : Nat) (C : Nat → Nat) (k : Nat) : Prop := ∀ i, i < k → C (ta i) < 1000000 → ∀ q w, suc h t (ta i) q w → C q ≤ C (ta i) + w
/-- one pass -/
theorem m_pass {Z0 z : zT} {C : Nat → Nat} {h t st : Nat} {J : zT → Option (Int32 × zT)} (h1 : 1 ≤ h) (h9 : h ≤ 9) (ht : t ≤ 1) (hz : fr46 Z0 z) (hC : CZ z C 0) (hI : CI h t st C) :
    ∃ z' C' fl', fr46 Z0 z' ∧ CZ z' C' fl' ∧ CI h t st C' ∧ (∀ q, C' q ≤ C q) ∧ ((fl' = 1 ∧ ∃ q, q < 216 ∧ C' q < C q) ∨ (fl' = 0 ∧ C' = C ∧ clsd h t C 216)) ∧ it1 (lX4_findsErrand_68 (nI h) (nI t) J) FU z (nI 0) = J z' := by
  refine it1_up (Q := fun o => ∃ z' C' fl', fr46 Z0 z' ∧ CZ z' C' fl' ∧ CI h t st C' ∧ (∀ q, C' q ≤ C q) ∧ ((fl' = 1 ∧ ∃ q, q < 216 ∧ C' q < C q) ∨ (fl' = 0 ∧ C' = C ∧ clsd h t C 216)) ∧ o = J z') (N := 216)
    (fun k z => ∃ C' fl', fr46 Z0 z ∧ CZ z C' fl' ∧ CI h t st C' ∧ (∀ q, C' q ≤ C q) ∧ ((fl' = 1 ∧ ∃ q, q < 216 ∧ C' q < C q) ∨ (fl' = 0 ∧ C' = C ∧ clsd h t C k))) ?_ ?_ (F := FU) (FU_lt (by omega)) ⟨C, 0, hz, hC, hI, fun _ => Nat.le_refl _, Or.inr ⟨rfl, rfl, fun j hj => absurd hj (Nat.not_lt_zero _)⟩⟩
  · rintro kk k z hk ⟨C', fl', hz', hC', hI', hle, hst⟩
    obtain ⟨t1, t2, _⟩ := ta_k ⟨k, hk⟩
    have t1 : ta k < 216 := t1
    have t2 : tau (ta k) = k := t2
    have hk1 : nI k + (1 : Int32) = nI (k + 1) := nI_1 k
    have e46 : z 46 k = nI (C' (ta k)) := by have := hC'.1 (ta k) t1; rwa [t2] at this
    have hb := hC'.2.1 (ta k)
    have hun : lX4_findsErrand_68 (nI h) (nI t) J kk z (nI k) = if nI 1000000 ≤ nI (C' (ta k)) then kk z (nI (k + 1)) else bd (fX4_errandFrom z (nI k) (nI h) (nI t)) fun z' => kk z' (nI (k + 1)) := by
      unfold lX4_findsErrand_68
      rw [if_neg (show ¬ (216 : Int32) ≤ nI k from nI_ge (b := 216) hk (by omega)), gd_of (inb_t (show k < 46656 by omega) (by omega)), ni_ix (show k < 2147483648 by omega), njE, e46]
      dsimp only
      simp only [nmE, hk1]
      rfl
    by_cases c : C' (ta k) < 1000000
    · obtain ⟨z2, C2, f2, a1, a2, a3, a4, a5, a6⟩ := m_from (h := h) (t := t) hz' hC' t1 h9 ht
      rw [t2] at a6
      refine ⟨z2, ?_, C2, f2, a1, a2, CI_RL h1 ht t1 c hI' a3, fun q => Nat.le_trans (a3.1 q) (hle q), ?_⟩
      · rw [hun, if_neg (nI_ge c (by omega)), a6, bd_s]
      · rcases a4 with ⟨g1, q, g2, g3⟩ | ⟨rfl, rfl⟩
        · exact Or.inl ⟨g1, q, g2, Nat.lt_of_lt_of_le g3 (hle q)⟩
        · rcases hst with hst | ⟨g1, rfl, g3⟩
          · exact Or.inl hst
          · refine Or.inr ⟨g1, rfl, fun i hi hci q w hq => ?_⟩
            rcases Nat.lt_or_ge i k with c' | c'
            · exact g3 i c' hci q w hq
            · obtain rfl : i = k := by omega
              exact a5 q w hq
    · refine ⟨z, ?_, C', fl', hz', hC', hI', hle, ?_⟩
      · rw [hun, if_pos (nI_le (by omega) (by omega))]
      · rcases hst with hst | ⟨g1, rfl, g3⟩
        · exact Or.inl hst
        · refine Or.inr ⟨g1, rfl, fun i hi hci q w hq => ?_⟩
          rcases Nat.lt_or_ge i k with c' | c'
          · exact g3 i c' hci q w hq
          · obtain rfl : i = k := by omega
            exact absurd hci c
  · rintro kk z ⟨C', fl', hz', hC', hI', hle, hst⟩
    exact ⟨z, C', fl', hz', hC', hI', hle, hst, if_pos (by decide)⟩
theorem m_loop {Z0 z : zT} {C : Nat → Nat} {h t st : Nat} {J : zT → Option (Int32 × zT)} (h1 : 1 ≤ h) (h9 : h ≤ 9) (ht : t ≤ 1) (hz : fr46 Z0 z) (hC : CZ z C 1) (hI : CI h t st C) :
    ∃ z' C', fr46 Z0 z' ∧ CZ z' C' 0 ∧ CI h t st C' ∧ clsd h t C' 216 ∧ it0 (lX4_findsErrand_53 (nI h) (nI t) J) FU z = J z' := by
  have hs := sumc_le hC.2.1 216
  refine it0_m (Q := fun o => ∃ z' C', fr46 Z0 z' ∧ CZ z' C' 0 ∧ CI h t st C' ∧ clsd h t C' 216 ∧ o = J z') (fun m z => ∃ C' fl', fr46 Z0 z ∧ CZ z C' fl' ∧ CI h t st C' ∧ ((fl' = 1 ∧ m = sumc C' 216 + 1) ∨ (fl' = 0 ∧ clsd h t C' 216))) ?_ FU (sumc C 216 + 1) z (Nat.lt_of_le_of_lt (Nat.succ_le_succ hs) (FU_lt (by omega))) ⟨C, 1, hz, hC, hI, Or.inl ⟨rfl, rfl⟩⟩
  rintro kk m z ⟨C', fl', hz', hC', hI', hst⟩
  rcases hst with ⟨rfl, rfl⟩ | ⟨rfl, hcl⟩
  · have hz2 : fr46 Z0 (zset z 47 0 (0 : Int32)) := fun g g1 g2 => by rw [zs_ne g2]; exact hz' g g1 g2
    have hC2 : CZ (zset z 47 0 (0 : Int32)) C' 0 := ⟨fun q hq => by rw [zr_ne (by omega)]; exact hC'.1 q hq, hC'.2.1, zr_eq⟩
    obtain ⟨z3, C3, f3, a1, a2, a3, a4, a5, a6⟩ := m_pass (J := fun (Z104 : zT) => kk Z104) h1 h9 ht hz2 hC2 hI'
    have hun : lX4_findsErrand_53 (nI h) (nI t) J kk z = kk z3 := by
      unfold lX4_findsErrand_53
      rw [hC'.2.2, if_neg (show ¬ nI 1 = (0 : Int32) from by decide), nmE, njE, njE]
      exact a6
    rcases a5 with ⟨rfl, q, hq, hlt⟩ | ⟨rfl, rfl, hcl⟩
    · have := sumc_lt a4 hq hlt
      exact Or.inr ⟨sumc C3 216 + 1, z3, by omega, hun, C3, 1, a1, a2, a3, Or.inl ⟨rfl, rfl⟩⟩
    · exact Or.inr ⟨0, z3, by omega, hun, C3, 0, a1, a2, a3, Or.inr ⟨rfl, hcl⟩⟩
  · refine Or.inl ⟨z, C', hz', hC', hI', hcl, ?_⟩
    unfold lX4_findsErrand_53
    exact if_pos hC'.2.2
theorem kd0_k : ∀ i : Fin 216, (i.1 / 27).testBit (mb (i.1 % 27) 2) = true ↔ kd (ta i.1) = 0 := by decide +kernel
theorem m_min {z : zT} {C : Nat → Nat} {h t st fl : Nat} {J : Int32 → Option (Int32 × zT)} (h9 : h ≤ 9) (ht : t ≤ 1) (hst : st < 216) (hC : CZ z C fl) (hI : CI h t st C) (hcl : clsd h t C 216) : it1 (lX4_findsErrand_115 z J) FU (nI 1000000) (nI 0) = J (nI (vk h t (kd st))) := by
  have hv := vk_lt h9 ht (kd st)
  -- a goal that is reached
  obtain ⟨g, g1, g2, g3⟩ := way_on (h := h) (t := t) (st := st) (C := fun q => C q) (P := fun s => kd s = 0 ∨ ¬ C s < 1000000) (fun s hs hn => by
    rw [not_or, Decidable.not_not] at hn
    refine ⟨hn.1, fun q w hq => ?_⟩
    have e := (ta_k ⟨s, hs⟩).2.2.2.1
    have e : ta (tau s) = s := e
    have l := (ta_k ⟨s, hs⟩).2.2.1
    have l : tau s < 216 := l
    have := hcl (tau s) l
    rw [e] at this
    exact this hn.2 q w hq) (kd st) st hst (Nat.le_refl _) (by rw [hI.2, Nat.zero_add]; exact Nat.le_refl _)
  have g3 : C g + vk h t (kd g) ≤ vk h t (kd st) := g3
  have hg0 : kd g = 0 := by
    rcases g2 with e | e
    · exact e
    · omega
  rw [hg0] at g3
  have g3 : C g + 0 ≤ vk h t (kd st) := g3
  have hge : ∀ i, i < 216 → kd (ta i) = 0 → vk h t (kd st) ≤ C (ta i) := by
    intro i hi h0
    have l : ta i < 216 := (ta_k ⟨i, hi⟩).1
    by_cases c : C (ta i) < 1000000
    · have := (hI.1 (ta i) l).2 c
      rw [h0] at this
      exact this
    · omega
  refine it1_up (Q := fun o => o = J (nI (vk h t (kd st)))) (N := 216) (fun k x => ∃ v, x = nI v ∧ v ≤ 1000000 ∧ vk h t (kd st) ≤ v ∧ ∀ i, i < k → kd (ta i) = 0 → v ≤ C (ta i)) ?_ ?_ (F := FU) (FU_lt (by omega)) ⟨1000000, rfl, Nat.le_refl _, by omega, fun i hi => absurd hi (Nat.not_lt_zero _)⟩
  · rintro kk k _ hk ⟨v, rfl, v1, v2, v3⟩
    obtain ⟨t1, t2, _⟩ := ta_k ⟨k, hk⟩
    have t1 : ta k < 216 := t1
    have t2 : tau (ta k) = k := t2
    have hk1 : nI k + (1 : Int32) = nI (k + 1) := nI_1 k
    have e46 : z 46 k = nI (C (ta k)) := by have := hC.1 (ta k) t1; rwa [t2] at this
    have hb := hC.2.1 (ta k)
    have hm : mb (k % 27) 2 < 3 := mb_lt (by omega)
    have tb := tb_i (a := k / 27) (k := mb (k % 27) 2) (by omega) (by omega)
    have hun : lX4_findsErrand_115 z J kk (nI v) (nI k) = if (if (k / 27).testBit (mb (k % 27) 2) = true then nI 1 else nI 0) = (1 : Int32) then (if nI v ≤ nI (C (ta k)) then kk (nI v) (nI (k + 1)) else kk (nI (C (ta k))) (nI (k + 1))) else kk (nI v) (nI (k + 1)) := by
      unfold lX4_findsErrand_115
      rw [if_neg (show ¬ (216 : Int32) ≤ nI k from nI_ge (b := 216) hk (by omega)), show jr (nI k) (27 : Int32) = nI (k % 27) from ni_rem (d := 27) (by omega) (by omega) (by omega), show fX4_memberOf z (nI (k % 27)) (2 : Int32) = some (nI (mb (k % 27) 2)) from m_mem (k := 2) (by omega) (by omega), bd_s, njE, show nI k / (27 : Int32) = nI (k / 27) from ni_div (d := 27) (by omega) (by omega) (by omega), show jsr (nI (k / 27)) (nI (mb (k % 27) 2)) &&& (1 : Int32) = _ from tb, gd_of (inb_t (show k < 46656 by omega) (by omega)), ni_ix (show k < 2147483648 by omega), e46]
      dsimp only
      simp only [nmE, hk1]
    have hkd := kd0_k ⟨k, hk⟩
    have hkd : (k / 27).testBit (mb (k % 27) 2) = true ↔ kd (ta k) = 0 := hkd
    rw [hun]
    by_cases c : (k / 27).testBit (mb (k % 27) 2) = true
    · rw [if_pos c, if_pos (show nI 1 = (1 : Int32) from rfl)]
      have h0 := hkd.mp c
      by_cases c2 : v ≤ C (ta k)
      · rw [if_pos (nI_le c2 (by omega))]
        refine ⟨nI v, rfl, v, rfl, v1, v2, fun i hi hi0 => ?_⟩
        rcases Nat.lt_or_ge i k with c' | c'
        · exact v3 i c' hi0
        · obtain rfl : i = k := by omega
          exact c2
      · rw [if_neg (nI_ge (by omega) (by omega))]
        refine ⟨nI (C (ta k)), rfl, C (ta k), rfl, hb, hge k hk h0, fun i hi hi0 => ?_⟩
        rcases Nat.lt_or_ge i k with c' | c'
        · have := v3 i c' hi0; omega
        · obtain rfl : i = k := by omega
          exact Nat.le_refl _
    · rw [if_neg c, if_neg (show ¬ nI 0 = (1 : Int32) from by decide)]
      refine ⟨nI v, rfl, v, rfl, v1, v2, fun i hi hi0 => ?_⟩
      rcases Nat.lt_or_ge i k with c' | c'
      · exact v3 i c' hi0
      · obtain rfl : i = k := by omega
        exact absurd (hkd.mpr hi0) c
  · rintro kk _ ⟨v, rfl, v1, v2, v3⟩
    have l := (ta_k ⟨g, g1⟩).2.2.1
    have l : tau g < 216 := l
    have e := (ta_k ⟨g, g1⟩).2.2.2.1
    have e : ta (tau g) = g := e
    have := v3 (tau g) l (by rw [e]; exact hg0)
    rw [e] at this
    have hv : v = vk h t (kd st) := by omega
    rw [hv]
    exact if_pos (by decide)
/-- who knows, where things would be -/
theorem m_known {Z : zT} {t f : Nat} (hB : MB Z) (ht : t < 4) (hf : f < 10) : fX4_knowersOf Z (nI t) (nI f) = some (nI (kn Z t f 3)) := by
  unfold fX4_knowersOf
  rw [njE]
  refine it1_up (Q := fun o => o = some (nI (kn Z t f 3))) (N := 3) (fun k u => u = nI (kn Z t f k)) ?_ ?_ (F := FU) (FU_lt (by omega)) rfl
  · rintro kk k _ hk rfl
    refine ⟨_, ?_, rfl⟩
    obtain ⟨q, q1, q2⟩ := MB_at hB 9 (10 * (3 * t + k) + f) (by decide)
    have q1 : q ≤ 2 := q1
    have hk1 : nI k + (1 : Int32) = nI (k + 1) := nI_1 k
    have ei : (10 : Int32) * ((3 : Int32) * nI t + nI k) + nI f = nI (10 * (3 * t + k) + f) := by
      rw [show (3 : Int32) * nI t = nI (3 * t) from ni_mul 3 t, ni_add, show (10 : Int32) * nI (3 * t + k) = nI (10 * (3 * t + k)) from ni_mul 10 _, ni_add]
    rw [kn_s, q2, ni_ix (show q < 2147483648 by omega)]
    unfold lX4_knowersOf_5
    rw [if_neg (show ¬ (3 : Int32) ≤ nI k from nI_ge (b := 3) hk (by omega)), ei, gd_of (inb_t (show 10 * (3 * t + k) + f < 120 by omega) (by omega)), ni_ix (show 10 * (3 * t + k) + f < 2147483648 by omega), njE, q2]
    dsimp only
    simp only [nmE, hk1]
    by_cases c : q = 0
    · subst c
      rw [if_pos (show nI 0 = (0 : Int32) from rfl), if_pos rfl]
    · rw [if_neg (show ¬ nI q = (0 : Int32) from ni_ne (q := 0) c (by omega) (by omega)), if_neg c, show js (1 : Int32) (nI k) = nI (2 ^ k) from js_2 (by omega), ni_or]
  · rintro kk _ rfl
    exact if_pos (by decide)
def plf (Z : zT) (t : Nat) : Nat → Nat
  | 0 => 0
  | k + 1 => 3 * plf Z t k + stl Z t k
theorem plf_le {Z : zT} {m nl t : Nat} (hB : MB Z) (hC : MC m nl Z) (ht : t < 4) {k : Nat} (hk : k ≤ 3) : plf Z t k < 3 ^ k := by
  induction k with
  | zero => show 0 < 1; omega
  | succ k ih =>
    have h1 := ih (by omega)
    have h2 := stl_lt hB hC ht (show k < 3 by omega)
    show 3 * plf Z t k + stl Z t k < 3 ^ (k + 1)
    rw [Nat.pow_succ]
    omega
theorem m_places {Z : zT} {m nl t : Nat} (hB : MB Z) (hC : MC m nl Z) (ht : t < 4) : fX4_placesOf Z (nI t) = some (nI (plf Z t 3)) := by
  unfold fX4_placesOf
  rw [njE]
  refine it1_up (Q := fun o => o = some (nI (plf Z t 3))) (N := 3) (fun k u => u = nI (plf Z t k)) ?_ ?_ (F := FU) (FU_lt (by omega)) rfl
  · rintro kk k _ hk rfl
    refine ⟨_, ?_, rfl⟩
    obtain ⟨h1, h2⟩ := b7_k hB (3 * t + k)
    have hk1 : nI k + (1 : Int32) = nI (k + 1) := nI_1 k
    have ei : (3 : Int32) * nI t + nI k = nI (3 * t + k) := by
      rw [show (3 : Int32) * nI t = nI (3 * t) from ni_mul 3 t, ni_add]
    have hth : fX4_thing Z (nI t) (nI k) = some (Z 7 (3 * t + k)) := by
      unfold fX4_thing
      rw [ei, gd_of (inb_t (show 3 * t + k < 12 by omega) (by omega)), ni_ix (by omega)]
    show _ = kk (nI (3 * plf Z t k + stl Z t k)) _
    have e3 : ∀ x : Nat, (3 : Int32) * nI (plf Z t k) + nI x = nI (3 * plf Z t k + x) := fun x => by
      rw [show (3 : Int32) * nI (plf Z t k) = nI (3 * plf Z t k) from ni_mul 3 _, ni_add]
    unfold lX4_placesOf_4
    rw [if_neg (show ¬ (3 : Int32) ≤ nI k from nI_ge (b := 3) hk (by omega)), hth, bd_s, njE, njE]
    dsimp only
    simp only [nmE, hk1]
    unfold stl
    by_cases c1 : ix (Z 7 (3 * t + k)) < 3
    · rw [if_pos c1, if_neg (by rw [h2]; exact nI_ge (b := 3) c1 (by omega)), ← e3, ← h2]
    · rw [if_neg c1, if_pos (by rw [h2]; exact nI_le (b := ix (Z 7 (3 * t + k))) (a := 3) (by omega) (by omega))]
      by_cases c2 : ix (Z 7 (3 * t + k)) = 3
      · rw [c2] at h2
        obtain ⟨g1, g2, g3⟩ := h31_k hC ht hk h2
        rw [if_pos c2, if_pos (show Z 7 (3 * t + k) = (3 : Int32) from h2), gd_of (inb_t (show t < 4 by omega) (by omega)), ni_ix (show t < 2147483648 by omega), if_pos (show Z 28 t = (1 : Int32) from g1), ← e3, ← g3]
      · rw [if_neg c2, if_neg (by rw [h2]; exact ni_ne (q := 3) c2 (by omega) (by omega)), ← e3]
        rfl
  · rintro kk _ rfl
    exact if_pos (by decide)
theorem m_init {Z0 z : zT} {J : zT → Option (Int32 × zT)} (hz : fr46 Z0 z) : ∃ z', fr46 Z0 z' ∧ (∀ q, q < 216 → z' 46 q = nI 1000000) ∧ it1 (lX4_findsErrand_3 J) FU z (nI 0) = J z' := by
  refine it1_up (Q := fun o => ∃ z', fr46 Z0 z' ∧ (∀ q, q < 216 → z' 46 q = nI 1000000) ∧ o = J z') (N := 216) (fun k z => fr46 Z0 z ∧ ∀ q, q < k → z 46 q = nI 1000000) ?_ ?_ (F := FU) (FU_lt (by omega)) ⟨hz, fun q hq => absurd hq (Nat.not_lt_zero _)⟩
  · rintro kk k z hk ⟨h1, h2⟩
    refine ⟨zset z 46 k (nI 1000000), ?_, fun g g1 g2 => by rw [zs_ne g1]; exact h1 g g1 g2, fun q hq => ?_⟩
    · unfold lX4_findsErrand_3
      rw [if_neg (show ¬ (216 : Int32) ≤ nI k from nI_ge (b := 216) hk (by omega)), gd_of (inb_t (show k < 46656 by omega) (by omega)), ni_ix (by omega), nmE, nmE, show nI k + (1 : Int32) = nI (k + 1) from nI_1 k]
      rfl
    · by_cases e : q = k
      · subst e; rw [zr_eq]
      · rw [zr_ni e]; exact h2 q (by omega)
  · rintro kk z ⟨h1, h2⟩
    exact ⟨z, h1, h2, if_pos (by decide)⟩
theorem m_finds {Z : zT} {m nl t f h u : Nat} (hB : MB Z) (hC : MC m nl Z) (ht : t < 4) (hf : f < 10) (h1 : 1 ≤ h) (h9 : h ≤ 9) (hu : u ≤ 1) : ∃ z', fr46 Z z' ∧ fX4_findsErrand Z (nI t) (nI f) (nI h) (nI u) = some (nI (vk h u (kd (est Z t f)) + u), z') := by
  have hst := est_lt (f := f) hB hC ht
  unfold fX4_findsErrand
  rw [njE, njE]
  obtain ⟨z1, a1, a2, a3⟩ := m_init (Z0 := Z) (z := Z) (J := fun (Z27 : zT) =>
    bd (fX4_knowersOf Z27 (nI t) (nI f)) fun (r_2 : Int32) =>
    bd (fX4_placesOf Z27 (nI t)) fun (r_4 : Int32) =>
    gd (inb (((27 : Int32) * r_2) + r_4) 46656) <|
    nm (zset Z27 46 (ix (((27 : Int32) * r_2) + r_4)) (0 : Int32)) fun (Z_6 : zT) =>
    nm (zset Z_6 47 0 (1 : Int32)) fun (Z_7 : zT) =>
    nj (fun (Z107 : zT) =>
      nj (fun (x5_172 : Int32) =>
        some ((x5_172 + nI u), Z107)) fun j172 =>
      nj (it1 (lX4_findsErrand_115 Z107 j172) FU) fun k115 =>
      k115 (1000000 : Int32) (0 : Int32)) fun j107 =>
    nj (it0 (lX4_findsErrand_53 (nI h) (nI u) j107) FU) fun k53 =>
    k53 Z_7) (fun _ _ _ => rfl)
  have hB1 : MB z1 := by
    intro g j hg
    by_cases e : g = 46
    · subst e; exact absurd rfl hg
    · by_cases e2 : g = 47
      · subst e2; exact absurd rfl hg
      · rw [a1 g e e2]; exact hB g j hg
  have hk := m_known hB1 ht hf
  have hC1 : MC m nl z1 := by
    unfold MC at hC ⊢
    rw [a1 28 (by omega) (by omega), a1 29 (by omega) (by omega), a1 30 (by omega) (by omega), a1 31 (by omega) (by omega), a1 7 (by omega) (by omega), a1 5 (by omega) (by omega), a1 6 (by omega) (by omega), a1 21 (by omega) (by omega), a1 44 (by omega) (by omega), a1 45 (by omega) (by omega), a1 3 (by omega) (by omega), a1 23 (by omega) (by omega)]
    exact hC
  have hp := m_places hB1 hC1 ht
  have hkn : kn z1 t f 3 = kn Z t f 3 := by unfold kn; rw [a1 9 (by omega) (by omega)]
  have hstl : ∀ k, stl z1 t k = stl Z t k := fun k => by unfold stl; rw [a1 7 (by omega) (by omega), a1 31 (by omega) (by omega)]
  have hpl : plf z1 t 3 = 9 * stl Z t 0 + 3 * stl Z t 1 + stl Z t 2 := by
    show 3 * (3 * (3 * 0 + stl z1 t 0) + stl z1 t 1) + stl z1 t 2 = _
    rw [hstl, hstl, hstl]
    omega
  have s0 := stl_lt hB hC ht (show 0 < 3 by omega)
  have s1 := stl_lt hB hC ht (show 1 < 3 by omega)
  have s2 := stl_lt hB hC ht (show 2 < 3 by omega)
  have s3 : kn Z t f 3 < 2 ^ 3 := kn_lt
  have htau : 27 * kn Z t f 3 + (9 * stl Z t 0 + 3 * stl Z t 1 + stl Z t 2) = tau (est Z t f) := by
    unfold tau pl est ck ce cr co mk
    generalize kn Z t f 3 = w at *
    generalize stl Z t 0 = x at *
    generalize stl Z t 1 = y at *
    generalize stl Z t 2 = z at *
    omega
  have hl : tau (est Z t f) < 216 := (ta_k ⟨est Z t f, hst⟩).2.2.1
  have hCZ : CZ (zset (zset z1 46 (tau (est Z t f)) (nI 0)) 47 0 (nI 1)) (fun q => if q = est Z t f then 0 else 1000000) 1 := by
    refine ⟨fun q hq => ?_, fun q => by dsimp only; split <;> omega, zr_eq⟩
    rw [zr_ne (by omega)]
    by_cases e : q = est Z t f
    · subst e; rw [zr_eq]; exact congrArg nI (if_pos rfl).symm
    · rw [zr_ni (fun c => e (tau_inj hst hq c))]
      have l : tau q < 216 := (ta_k ⟨q, hq⟩).2.2.1
      exact (a2 _ l).trans (congrArg nI (if_neg e).symm)
  have hz2 : fr46 Z (zset (zset z1 46 (tau (est Z t f)) (nI 0)) 47 0 (nI 1)) := fun g g1 g2 => by rw [zs_ne g2, zs_ne g1]; exact a1 g g1 g2
  obtain ⟨z', C', d1, d2, d3, d4, d5⟩ := m_loop (J := fun (Z107 : zT) =>
      nj (fun (x5_172 : Int32) =>
        some ((x5_172 + nI u), Z107)) fun j172 =>
      nj (it1 (lX4_findsErrand_115 Z107 j172) FU) fun k115 =>
      k115 (1000000 : Int32) (0 : Int32)) h1 h9 hu hz2 hCZ (CI_0 h9 hu)
  refine ⟨z', d1, ?_⟩
  refine Eq.trans a3 ?_
  rw [hk, bd_s, hp, bd_s, hkn, hpl, show (27 : Int32) * nI (kn Z t f 3) + nI (9 * stl Z t 0 + 3 * stl Z t 1 + stl Z t 2) = nI (tau (est Z t f)) from by rw [show (27 : Int32) * nI (kn Z t f 3) = nI (27 * kn Z t f 3) from ni_mul 27 _, ni_add, htau], gd_of (inb_t (show tau (est Z t f) < 46656 by omega) (by omega)), ni_ix (by omega), nmE, nmE, njE, njE]
  refine Eq.trans d5 ?_
  rw [njE, njE]
  refine Eq.trans (m_min (J := fun (x5_172 : Int32) => some ((x5_172 + nI u), z')) h9 hu hst d2 d3 d4) ?_
  rw [ni_add]
