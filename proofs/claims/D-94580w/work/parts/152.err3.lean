/-! LAYER 2: errands: OneEye's search -/
/-- where a thing of a three would be -/
def stl (Z : zT) (t k : Nat) : Nat := if ix (Z 7 (3 * t + k)) < 3 then ix (Z 7 (3 * t + k)) else if ix (Z 7 (3 * t + k)) = 3 then ix (Z 31 t) else 0
theorem b7_k {Z : zT} (hB : MB Z) (i : Nat) : ix (Z 7 i) ≤ 18 ∧ Z 7 i = nI (ix (Z 7 i)) := by
  obtain ⟨k, hk, e⟩ := MB_at hB 7 i (by decide)
  have hk : k ≤ 18 := hk
  rw [e, ni_ix (by omega)]
  exact ⟨hk, rfl⟩
theorem b9_k {Z : zT} (hB : MB Z) (i : Nat) : ix (Z 9 i) ≤ 2 ∧ Z 9 i = nI (ix (Z 9 i)) := by
  obtain ⟨k, hk, e⟩ := MB_at hB 9 i (by decide)
  have hk : k ≤ 2 := hk
  rw [e, ni_ix (by omega)]
  exact ⟨hk, rfl⟩
theorem h31_k {Z : zT} {m nl t k : Nat} (hC : MC m nl Z) (ht : t < 4) (hk : k < 3) (h : Z 7 (3 * t + k) = nI 3) : Z 28 t = nI 1 ∧ ix (Z 31 t) ≤ 2 ∧ Z 31 t = nI (ix (Z 31 t)) := by
  have h1 := (hC.2.2.2.1 t k ht hk h).1
  obtain ⟨x, y, _, h2, _, h3, _⟩ := hC.2.1 t ht h1
  rw [h3, ni_ix (by omega)]
  exact ⟨h1, h2, rfl⟩
theorem stl_lt {Z : zT} {m nl t k : Nat} (hB : MB Z) (hC : MC m nl Z) (ht : t < 4) (hk : k < 3) : stl Z t k < 3 := by
  obtain ⟨h1, h2⟩ := b7_k hB (3 * t + k)
  unfold stl
  split
  · assumption
  · split
    · next h =>
      rw [h] at h2
      have := (h31_k hC ht hk h2).2.1
      omega
    · omega
theorem e_settled {a v w n m nn nl nw : Nat} {S : sT} {P : pT} {Y I Z : zT} {t k : Nat} (hR : Rel a v w S P Y I n Z m nn nl nw) (ht : t < 4) (hk : k < 3) : fX2_settled S P (enc a Y I) (aT v t) (nI k) = some (nI (stl Z t k)) := by
  obtain ⟨⟨hv, hw, hA, h4, h5, hL, hM⟩, hn, hX, hN, hB, hC, hP, hK⟩ := id hR
  have hm4 : m ≤ 4 := hN.2.1.1
  have hn20 : nn ≤ 20 := hN.2.1.2.1
  have hl99 : nl ≤ 99 := hN.2.1.2.2.1
  have hw9 : nw ≤ 9 := hN.2.1.2.2.2
  obtain ⟨h1, h2⟩ := b7_k hB (3 * t + k)
  have e7 : Y 7 (3 * t + k) = Z 7 (3 * t + k) := VN_7 hN (by omega)
  unfold fX2_settled
  rw [gd_of (LV_kT hL ht), LV_pW hL ht, bd_s, gd_of (LV_kW hL ht), LV_nW hL ht, gd_of (inb_t hk (by omega)), ni_ix (by omega), er_w hv ht hk, e7, er_t11 hv ht]
  unfold stl
  by_cases c1 : ix (Z 7 (3 * t + k)) < 3
  · rw [if_pos c1, if_neg (by rw [h2]; exact nI_ge (b := 3) c1 (by omega)), ← h2]
  · rw [if_neg c1, if_pos (by rw [h2]; exact nI_le (b := ix (Z 7 (3 * t + k))) (a := 3) (by omega) (by omega))]
    by_cases c2 : ix (Z 7 (3 * t + k)) = 3
    · rw [c2] at h2
      obtain ⟨g1, g2, g3⟩ := h31_k hC ht hk h2
      have e31 : Y 31 t = Z 31 t := ((hN.2.2.2.2.2.2 t ht).1 g1).2.2
      rw [if_pos c2, if_pos (show Z 7 (3 * t + k) = (3 : Int32) from h2), e31, ← g3]
    · rw [if_neg c2, if_neg (by rw [h2]; exact ni_ne (q := 3) c2 (by omega) (by omega))]
      rfl
/-- who of a three knows -/
def kn (Z : zT) (t f : Nat) : Nat → Nat := orf (fun j => !(decide (ix (Z 9 (10 * (3 * t + j) + f)) = 0))) (fun j => j)
theorem kn_lt {Z : zT} {t f k : Nat} : kn Z t f k < 2 ^ k := orf_lt k (fun _ h => h)
theorem kn_s {Z : zT} {t f k : Nat} : kn Z t f (k + 1) = if ix (Z 9 (10 * (3 * t + k) + f)) = 0 then kn Z t f k else kn Z t f k ||| 2 ^ k := by
  show (if (!(decide (ix (Z 9 (10 * (3 * t + k) + f)) = 0))) = true then kn Z t f k ||| 2 ^ k else kn Z t f k) = _
  by_cases c : ix (Z 9 (10 * (3 * t + k) + f)) = 0
  · rw [if_pos c, decide_eq_true c]; rfl
  · rw [if_neg c, decide_eq_false c]; rfl
theorem e_known {a v w n m nn nl nw : Nat} {S : sT} {P : pT} {Y I Z : zT} {t f : Nat} {J : Int32 → Option (Int32 × zT)} (hR : Rel a v w S P Y I n Z m nn nl nw) (ht : t < 4) (hf : f < 10) : it1 (lX0_errandBy_6 S P (enc a Y I) a (aT v t) (nI f) J) FU (nI 0) (nI 0) = J (nI (kn Z t f 3)) := by
  obtain ⟨⟨hv, hw, hA, h4, h5, hL, hM⟩, hn, hX, hN, hB, hC, hP, hK⟩ := id hR
  have hm4 : m ≤ 4 := hN.2.1.1
  have hn20 : nn ≤ 20 := hN.2.1.2.1
  have hl99 : nl ≤ 99 := hN.2.1.2.2.1
  have hw9 : nw ≤ 9 := hN.2.1.2.2.2
  refine it1_up (Q := fun o => o = J (nI (kn Z t f 3))) (N := 3) (fun k u => u = nI (kn Z t f k)) ?_ ?_ (F := FU) (FU_lt (by omega)) rfl
  · rintro kk k _ hk rfl
    refine ⟨_, ?_, rfl⟩
    obtain ⟨q, q1, q2⟩ := MB_at hB 9 (10 * (3 * t + k) + f) (by decide)
    have q1 : q ≤ 2 := q1
    have e9 : Y 9 (10 * (3 * t + k) + f) = nI q := (VN_9 hN (by omega)).trans q2
    have hp := e_person (I := I) (x := nI k) hv hL ht (VN_65 hN ht)
    rw [ni_add] at hp
    rw [kn_s, q2, ni_ix (show q < 2147483648 by omega)]
    unfold lX0_errandBy_6
    rw [if_neg (show ¬ (3 : Int32) ≤ nI k from nI_ge (b := 3) hk (by omega)), gd_of (LA_ka hA), h4, bd_s, gd_of (LV_kv hL), LV_p1 hL, bd_s, gd_of (LV_kT hL ht), hp, bd_s, gd_of (LV_k1 hL), LV_n1 hL, gd_of (inb_t (show 3 * t + k < 12 by omega) (by omega)), ni_ix (show 3 * t + k < 2147483648 by omega), LV_pK hL (show 3 * t + k < 12 by omega), bd_s, gd_of (LV_kK hL (show 3 * t + k < 12 by omega)), LV_nK hL (show 3 * t + k < 12 by omega), gd_of (inb_t hf (by omega)), ni_ix (show f < 2147483648 by omega), njE, er_kn hv (show 3 * t + k < 12 by omega) hf, e9]
    by_cases c : q = 0
    · subst c
      rw [if_pos (show nI 0 ≤ (0 : Int32) from by decide), if_pos rfl]
      dsimp only
      rw [nmE, nmE, show nI k + (1 : Int32) = nI (k + 1) from nI_1 k, show nI (kn Z t f k) ||| (0 : Int32) = nI (kn Z t f k ||| 0) from ni_or _ 0, Nat.or_zero]
    · rw [if_neg (show ¬ nI q ≤ (0 : Int32) from nI_ge (show 0 < q by omega) (by omega)), if_neg c]
      dsimp only
      rw [nmE, nmE, show nI k + (1 : Int32) = nI (k + 1) from nI_1 k, show js (1 : Int32) (nI k) = nI (2 ^ k) from js_2 (by omega), ni_or]
  · rintro kk _ rfl
    exact if_pos (by decide)
def DM (Y : zT) (D : Nat → Bool) : Prop := ∀ q, q < 216 → Y 208 q = if D q = true then nI 1 else nI 0
theorem e_clr53 {a : Nat} {S : sT} {P : pT} {Y I : zT} {J : zT → Option (Int32 × zT)} (hA : LA S P a) : ∃ Y', (∀ g, g ≠ 207 → g ≠ 208 → Y' g = Y g) ∧ (∀ q, q < 216 → Y' 207 q = nI 1000000 ∧ Y' 208 q = nI 0) ∧ it1 (lX0_errandBy_53 S P a J) FU (enc a Y I) (nI 0) = J (enc a Y' I) := by
  refine it1_up (Q := fun o => ∃ Y', (∀ g, g ≠ 207 → g ≠ 208 → Y' g = Y g) ∧ (∀ q, q < 216 → Y' 207 q = nI 1000000 ∧ Y' 208 q = nI 0) ∧ o = J (enc a Y' I)) (N := 216) (fun k I' => ∃ Y', I' = enc a Y' I ∧ (∀ g, g ≠ 207 → g ≠ 208 → Y' g = Y g) ∧ ∀ q, q < k → Y' 207 q = nI 1000000 ∧ Y' 208 q = nI 0) ?_ ?_ (F := FU) (FU_lt (by omega)) ⟨Y, rfl, fun _ _ _ => rfl, fun q hq => absurd hq (Nat.not_lt_zero _)⟩
  · rintro kk k _ hk ⟨Y', rfl, h1, h2⟩
    refine ⟨enc a (zset (zset Y' 207 k (nI 1000000)) 208 k (nI 0)) I, ?_, _, rfl, fun g g1 g2 => by rw [zs_ne g2, zs_ne g1]; exact h1 g g1 g2, fun q hq => ?_⟩
    · unfold lX0_errandBy_53
      rw [if_neg (show ¬ (216 : Int32) ≤ nI k from nI_ge (b := 216) hk (by omega)), gd_of (LA_ka hA), LA_p7 hA, bd_s, gd_of (LA_k7 hA), LA_n7 hA, gd_of (inb_t hk (by omega)), ni_ix (by omega), ew_co hk, nmE, LA_p8 hA, bd_s, gd_of (LA_k8 hA), LA_n8 hA, gd_of (inb_t hk (by omega)), ew_do hk, nmE, nmE, show nI k + (1 : Int32) = nI (k + 1) from nI_1 k]
      rfl
    · by_cases e : q = k
      · subst e
        exact ⟨by rw [zr_ne (by omega), zr_eq], zr_eq⟩
      · have := h2 q (by omega)
        rw [zr_ne (by omega), zr_ni e, zr_ni e]
        exact this
  · rintro kk _ ⟨Y', rfl, h1, h2⟩
    exact ⟨Y', h1, h2, if_pos (by decide)⟩
theorem e_best {a : Nat} {S : sT} {P : pT} {Y I : zT} {C : Nat → Nat} {D : Nat → Bool} {J : Int32 → Option (Int32 × zT)} (hA : LA S P a) (hC : CM Y C) (hD : DM Y D) (hu : ∃ u, u < 216 ∧ D u = false) :
    ∃ b, b < 216 ∧ D b = false ∧ (∀ u, u < 216 → D u = false → C b ≤ C u) ∧ it1 (lX0_errandBy_116 S P a (o7 a) (enc a Y I) J) FU (-1) (nI 0) = J (nI b) := by
  refine it1_up (Q := fun o => ∃ b, b < 216 ∧ D b = false ∧ (∀ u, u < 216 → D u = false → C b ≤ C u) ∧ o = J (nI b)) (N := 216) (fun k x => (x = (-1 : Int32) ∧ ∀ u, u < k → D u = true) ∨ ∃ b, x = nI b ∧ b < k ∧ D b = false ∧ ∀ u, u < k → D u = false → C b ≤ C u) ?_ ?_ (F := FU) (FU_lt (by omega)) (Or.inl ⟨rfl, fun q hq => absurd hq (Nat.not_lt_zero _)⟩)
  · intro kk k x hk hx
    have hk1 : nI k + (1 : Int32) = nI (k + 1) := nI_1 k
    have hun : lX0_errandBy_116 S P a (o7 a) (enc a Y I) J kk x (nI k) = if (if D k = true then nI 1 else nI 0) = (0 : Int32) then nj (kk (nI k) (nI (k + 1))) fun j157 => if x = (-1 : Int32) then j157 else gd (inb (nI k) 216) <| gd (inb x 216) <| if enc a Y I (o7 a) (ix x) ≤ enc a Y I (o7 a) (ix (nI k)) then kk x (nI (k + 1)) else j157 else kk x (nI (k + 1)) := by
      unfold lX0_errandBy_116
      rw [if_neg (show ¬ (216 : Int32) ≤ nI k from nI_ge (b := 216) hk (by omega)), LA_p8 hA, bd_s, gd_of (LA_k8 hA), LA_n8 hA, gd_of (inb_t hk (by omega)), njE, LA_n7 hA]
      dsimp only
      simp only [nmE, hk1]
      rw [show enc a Y I (o8 a) (ix (nI k)) = if D k = true then nI 1 else nI 0 from by rw [ni_ix (by omega), er_do hk, hD k hk]]
    rw [hun]
    cases hDk : D k
    · rw [if_neg (show ¬ false = true by decide), if_pos (show nI 0 = (0 : Int32) from rfl), njE]
      rcases hx with ⟨rfl, hx⟩ | ⟨b, rfl, h1, h2, h3⟩
      · rw [if_pos rfl]
        refine ⟨nI k, rfl, Or.inr ⟨k, rfl, by omega, hDk, fun u hu hDu => ?_⟩⟩
        rcases Nat.lt_or_ge u k with c | c
        · rw [hx u c] at hDu; cases hDu
        · obtain rfl : u = k := by omega
          exact Nat.le_refl _
      · have b1 := hC.2 b
        have b2 := hC.2 k
        rw [if_neg (show ¬ nI b = (-1 : Int32) from fun e => by rw [ni_m1 (by omega)] at e; exact e), gd_of (inb_t hk (by omega)), gd_of (inb_t (show b < 216 by omega) (by omega)), ni_ix (show b < 2147483648 by omega), ni_ix (show k < 2147483648 by omega), er_co (show b < 216 by omega), er_co hk, hC.1 b (by omega), hC.1 k hk]
        by_cases c : C b ≤ C k
        · rw [if_pos (nI_le c (by omega))]
          refine ⟨nI b, rfl, Or.inr ⟨b, rfl, by omega, h2, fun u hu hDu => ?_⟩⟩
          rcases Nat.lt_or_ge u k with c' | c'
          · exact h3 u c' hDu
          · obtain rfl : u = k := by omega
            exact c
        · rw [if_neg (nI_ge (by omega) (by omega))]
          refine ⟨nI k, rfl, Or.inr ⟨k, rfl, by omega, hDk, fun u hu hDu => ?_⟩⟩
          rcases Nat.lt_or_ge u k with c' | c'
          · have := h3 u c' hDu
            omega
          · obtain rfl : u = k := by omega
            exact Nat.le_refl _
    · rw [if_pos rfl, if_neg (show ¬ nI 1 = (0 : Int32) from by decide)]
      refine ⟨x, rfl, ?_⟩
      rcases hx with ⟨rfl, hx⟩ | ⟨b, rfl, h1, h2, h3⟩
      · refine Or.inl ⟨rfl, fun u hu => ?_⟩
        rcases Nat.lt_or_ge u k with c' | c'
        · exact hx u c'
        · obtain rfl : u = k := by omega
          exact hDk
      · refine Or.inr ⟨b, rfl, by omega, h2, fun u hu hDu => ?_⟩
        rcases Nat.lt_or_ge u k with c' | c'
        · exact h3 u c' hDu
        · obtain rfl : u = k := by omega
          rw [hDk] at hDu; cases hDu
  · rintro kk x (⟨rfl, hx⟩ | ⟨b, rfl, h1, h2, h3⟩)
    · obtain ⟨u, u1, u2⟩ := hu
      rw [hx u u1] at u2; cases u2
    · exact ⟨b, h1, h2, h3, if_pos (by decide)⟩
/-- how many are not done -/
def und (D : Nat → Bool) : Nat → Nat
  | 0 => 0
  | k + 1 => if D k = true then und D k else und D k + 1
theorem und_le (D : Nat → Bool) (k : Nat) : und D k ≤ k := by
  induction k with
  | zero => exact Nat.le_refl _
  | succ k ih =>
    show (if D k = true then und D k else und D k + 1) ≤ k + 1
    split <;> omega
theorem und_c {D D' : Nat → Bool} {k : Nat} (h : ∀ x, x < k → D' x = D x) : und D' k = und D k := by
  induction k with
  | zero => rfl
  | succ k ih =>
    show (if D' k = true then und D' k else und D' k + 1) = if D k = true then und D k else und D k + 1
    rw [ih (fun x hx => h x (by omega)), h k (by omega)]
theorem und_set {D : Nat → Bool} {b k : Nat} (hb : b < k) (hDb : D b = false) : und (fun x => if x = b then true else D x) k + 1 = und D k := by
  induction k with
  | zero => exact absurd hb (Nat.not_lt_zero _)
  | succ k ih =>
    show (if (if k = b then true else D k) = true then und (fun x => if x = b then true else D x) k else und (fun x => if x = b then true else D x) k + 1) + 1 = if D k = true then und D k else und D k + 1
    by_cases e : k = b
    · subst e
      rw [if_pos rfl, if_pos rfl, hDb, if_neg (by decide), und_c (fun x hx => if_neg (by omega))]
    · rw [if_neg e]
      have := ih (by omega)
      split <;> omega
theorem e_search {a h t st : Nat} {S : sT} {P : pT} {Y0 Y I : zT} {C : Nat → Nat} {D : Nat → Bool} {J : zT → Int32 → Option (Int32 × zT)} (hA : LA S P a) (h1 : 1 ≤ h) (h9 : h ≤ 9) (ht : t ≤ 1) (hst : st < 216) (hy : ∀ g, g ≠ 207 → g ≠ 208 → Y g = Y0 g) (hC : CM Y C) (hD : DM Y D) (hI : CI h t st C) (hDI : DI h t C D) :
    ∃ Y' b, (∀ g, g ≠ 207 → g ≠ 208 → Y' g = Y0 g) ∧ b < 216 ∧ Y' 207 b = nI (vk h t (kd st)) ∧ it0 (lX0_errandBy_110 S P a (nI h) (nI t) (o7 a) J) FU (enc a Y I) = J (enc a Y' I) (nI b) := by
  refine it0_m (Q := fun o => ∃ Y' b, (∀ g, g ≠ 207 → g ≠ 208 → Y' g = Y0 g) ∧ b < 216 ∧ Y' 207 b = nI (vk h t (kd st)) ∧ o = J (enc a Y' I) (nI b)) (fun m I' => ∃ Y C D, I' = enc a Y I ∧ (∀ g, g ≠ 207 → g ≠ 208 → Y g = Y0 g) ∧ CM Y C ∧ DM Y D ∧ CI h t st C ∧ DI h t C D ∧ und D 216 = m) ?_ FU (und D 216) (enc a Y I) (Nat.lt_of_le_of_lt (und_le D 216) (FU_lt (by omega))) ⟨Y, C, D, rfl, hy, hC, hD, hI, hDI, rfl⟩
  rintro kk m _ ⟨Y, C, D, rfl, hy, hC, hD, hI, hDI, rfl⟩
  obtain ⟨u, u1, u2, u3⟩ := D_best hst hI hDI
  obtain ⟨b, b1, b2, b3, b4⟩ := e_best (I := I) (J := fun (x6_167 : Int32) =>
    bd (fX0_memberIn x6_167 (2 : Int32)) fun (r_17 : Int32) =>
    if ((jsr (jr x6_167 (8 : Int32)) r_17) &&& (1 : Int32)) = (1 : Int32) then (
      J (enc a Y I) x6_167)
    else (
      bd (P a 8) fun (b_19 : Nat) =>
      gd (isk S b_19 21) <|
      gd (inb x6_167 (S b_19).2) <|
      nm (zset (enc a Y I) b_19 (ix x6_167) (1 : Int32)) fun (I_22 : zT) =>
      bd (fX0_acts S P I_22 a x6_167 (nI h) (nI t)) fun (I_24 : zT) =>
      kk I_24)) hA hC hD ⟨u, u1, u2⟩
  have hv := vk_lt h9 ht (kd st)
  have hcb := b3 u u1 u2
  have hun : lX0_errandBy_110 S P a (nI h) (nI t) (o7 a) J kk (enc a Y I) = _ := b4
  have hrem : jr (nI b) (8 : Int32) = nI (ck b) := ni_rem (d := 8) (by omega) (by omega) (by omega)
  obtain ⟨c0, c1, c2, c3, c4⟩ := comp_k b1
  have tb := tb_i (a := ck b) (k := co b) (by omega) (by omega)
  rw [(e_memI b1).2.2, bd_s, hrem] at hun
  by_cases hb : (ck b).testBit (co b) = true
  · rw [if_pos hb] at tb
    have hk0 : kd b = 0 := if_pos hb
    have hge := (hI.1 b b1).2 (by omega)
    have hge : vk h t (kd st) ≤ C b + vk h t (kd b) := hge
    rw [hk0] at hge
    have hge : vk h t (kd st) ≤ C b + 0 := hge
    have he : C b = vk h t (kd st) := by omega
    refine Or.inl ⟨Y, b, hy, b1, by rw [hC.1 b b1, he], ?_⟩
    rw [hun]
    exact if_pos (by show jsr (nI (ck b)) (nI (co b)) &&& nI 1 = (1 : Int32); rw [tb]; rfl)
  · rw [if_neg hb] at tb
    have hk0 : kd b ≠ 0 := by
      unfold kd
      rw [if_neg hb]
      split
      · omega
      · split <;> omega
    have hC2 : CM (zset Y 208 b (nI 1)) C := ⟨fun q hq => by rw [zr_ne (by omega)]; exact hC.1 q hq, hC.2⟩
    obtain ⟨Y', C', a1, a2, a3, a4, a5⟩ := e_acts (I := I) (h := h) (t := t) hA b1 h9 ht hC2
    refine Or.inr ⟨und (fun x => if x = b then true else D x) 216, enc a Y' I, ?_, ?_, Y', C', fun x => if x = b then true else D x, rfl, fun g g1 g2 => by rw [a1 g g1, zs_ne g2]; exact hy g g1 g2, a2, fun q hq => ?_, CI_RL h1 ht b1 (by omega) hI a3, D_next b1 b2 b3 hk0 hDI a3 a4, rfl⟩
    · have := und_set b1 b2
      omega
    · rw [hun, if_neg (by show ¬ jsr (nI (ck b)) (nI (co b)) &&& nI 1 = (1 : Int32); rw [tb]; decide), LA_p8 hA, bd_s, gd_of (LA_k8 hA), LA_n8 hA, gd_of (inb_t b1 (by omega)), ni_ix (by omega), ew_do b1, nmE]
      show bd (fX0_acts S P (enc a (zset Y 208 b (nI 1)) I) a (nI b) (nI h) (nI t)) _ = _
      rw [a5, bd_s]
    · rw [a1 208 (by omega)]
      by_cases e : q = b
      · subst e; rw [zr_eq]; exact (if_pos (if_pos rfl)).symm
      · rw [zr_ni e]
        have hq' : (if q = b then true else D q) = D q := if_neg e
        show Y 208 q = if (if q = b then true else D q) = true then nI 1 else nI 0
        simp only [hq']
        exact hD q hq
/-- the start of an errand -/
def est (Z : zT) (t f : Nat) : Nat := mk (stl Z t 0) (stl Z t 1) (stl Z t 2) (kn Z t f 3)
theorem est_lt {Z : zT} {m nl t f : Nat} (hB : MB Z) (hC : MC m nl Z) (ht : t < 4) : est Z t f < 216 := by
  have h0 := stl_lt hB hC ht (show 0 < 3 by omega)
  have h1 := stl_lt hB hC ht (show 1 < 3 by omega)
  have h2 := stl_lt hB hC ht (show 2 < 3 by omega)
  have h3 : kn Z t f 3 < 2 ^ 3 := kn_lt
  unfold est mk
  omega
theorem CI_0 {h t st : Nat} (h9 : h ≤ 9) (ht : t ≤ 1) : CI h t st (fun q => if q = st then 0 else 1000000) := by
  refine ⟨fun s _ => ?_, if_pos rfl⟩
  dsimp only
  by_cases e : s = st
  · subst e
    rw [if_pos rfl]
    exact ⟨by omega, fun _ => by omega⟩
  · rw [if_neg e]
    exact ⟨by omega, fun c => by omega⟩
theorem e_errandBy {a v w n m nn nl nw : Nat} {S : sT} {P : pT} {Y I Z : zT} {t f h u : Nat} (hR : Rel a v w S P Y I n Z m nn nl nw) (ht : t < 4) (hf : f < 10) (h1 : 1 ≤ h) (h9 : h ≤ 9) (hu : u ≤ 1) : ∃ Y', (∀ g, g ≠ 207 → g ≠ 208 → Y' g = Y g) ∧ fX0_errandBy S P (enc a Y I) a (aT v t) (nI f) (nI h) (nI u) = some (nI (vk h u (kd (est Z t f)) + u), enc a Y' I) := by
  have hR0 := hR
  obtain ⟨⟨hv, hw, hA, h4, h5, hL, hM⟩, hn, hX, hN, hB, hC, hP, hK⟩ := id hR
  have hm4 : m ≤ 4 := hN.2.1.1
  have hn20 : nn ≤ 20 := hN.2.1.2.1
  have hl99 : nl ≤ 99 := hN.2.1.2.2.1
  have hw9 : nw ≤ 9 := hN.2.1.2.2.2
  have hst := est_lt (f := f) hB hC ht
  unfold fX0_errandBy
  rw [njE, njE]
  obtain ⟨Y1, y1, y2, y3⟩ := e_clr53 (Y := Y) (I := I) (J := fun (I84 : zT) =>
      gd (isk S a 1) <|
      bd (P a 7) fun (b_2 : Nat) =>
      gd (isk S (aT v t) 3) <|
      bd (fX2_settled S P I84 (aT v t) (0 : Int32)) fun (r_5 : Int32) =>
      bd (fX2_settled S P I84 (aT v t) (1 : Int32)) fun (r_7 : Int32) =>
      bd (fX2_settled S P I84 (aT v t) (2 : Int32)) fun (r_9 : Int32) =>
      bd (fX0_stateBy r_5 r_7 r_9 (nI (kn Z t f 3))) fun (r_11 : Int32) =>
      gd (isk S b_2 20) <|
      gd (inb r_11 (S b_2).2) <|
      nm (zset I84 b_2 (ix r_11) (0 : Int32)) fun (I_14 : zT) =>
      nj (fun (I185 : zT) (x6_185 : Int32) =>
        gd (inb x6_185 (S b_2).2) <|
        some (((I185 b_2 (ix x6_185)) + nI u), I185)) fun j185 =>
      nj (it0 (lX0_errandBy_110 S P a (nI h) (nI u) b_2 j185) FU) fun k110 =>
      k110 I_14) hA
  have hR1 : Rel a v w S P Y1 I n Z m nn nl nw := R_yy (fun g hg => y1 g (by omega) (by omega)) hR
  obtain ⟨Y', b, d1, d2, d3, d4⟩ := e_search (I := I) (h := h) (t := u) (st := est Z t f) (Y0 := Y) (Y := zset Y1 207 (est Z t f) (nI 0)) (C := fun q => if q = est Z t f then 0 else 1000000) (D := fun _ => false) (J := fun (I185 : zT) (x6_185 : Int32) =>
        gd (inb x6_185 216) <|
        some (((I185 (o7 a) (ix x6_185)) + nI u), I185)) hA h1 h9 hu hst (fun g g1 g2 => by rw [zs_ne g1]; exact y1 g g1 g2) ⟨fun q hq => by
        by_cases e : q = est Z t f
        · subst e; rw [zr_eq]; exact congrArg nI (if_pos rfl).symm
        · rw [zr_ni e]; exact ((y2 q hq).1).trans (congrArg nI (if_neg e).symm), fun q => by dsimp only; split <;> omega⟩ (fun q hq => by
        rw [zr_ne (by omega)]; exact (y2 q hq).2) (CI_0 h9 hu) ⟨fun d _ hd => absurd hd Bool.false_ne_true, fun d u _ _ hd => absurd hd Bool.false_ne_true⟩
  refine ⟨Y', d1, ?_⟩
  refine Eq.trans (e_known hR ht hf) ?_
  rw [njE, njE]
  refine Eq.trans y3 ?_
  rw [gd_of (LA_ka hA), LA_p7 hA, bd_s, gd_of (LV_kT hL ht), show fX2_settled S P (enc a Y1 I) (aT v t) (0 : Int32) = _ from e_settled (k := 0) hR1 ht (by omega), bd_s, show fX2_settled S P (enc a Y1 I) (aT v t) (1 : Int32) = _ from e_settled (k := 1) hR1 ht (by omega), bd_s, show fX2_settled S P (enc a Y1 I) (aT v t) (2 : Int32) = _ from e_settled (k := 2) hR1 ht (by omega), bd_s, e_stBy, bd_s, gd_of (LA_k7 hA), LA_n7 hA]
  show gd (inb (nI (est Z t f)) 216) _ = _
  rw [gd_of (inb_t hst (by omega)), show ix (nI (mk (stl Z t 0) (stl Z t 1) (stl Z t 2) (kn Z t f 3))) = est Z t f from ni_ix (a := est Z t f) (by omega), ew_co hst, nmE, njE, njE]
  refine Eq.trans d4 ?_
  rw [gd_of (inb_t d2 (by omega)), ni_ix (by omega), er_co d2, d3, ni_add]
