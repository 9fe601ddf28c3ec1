/-! LAYER 2: the ints of OneEye (at a .. a+740) as numbers Y by field and place (printed by gen2/enc.py) -/
def q0 (v : Nat) : Nat := v + 1
def q1 (v : Nat) : Nat := v + 2
def q2 (v : Nat) : Nat := v + 15
def q3 (v : Nat) : Nat := v + 28
def q4 (v : Nat) : Nat := v + 128
def q5 (v : Nat) : Nat := v + 141
def q6 (v : Nat) : Nat := v + 142
def q7 (v : Nat) : Nat := v + 143
def q8 (v : Nat) : Nat := v + 156
def q9 (v : Nat) : Nat := v + 157
def q10 (v : Nat) : Nat := v + 206
def q11 (v : Nat) : Nat := v + 223
def q12 (v : Nat) : Nat := v + 224
def q13 (v : Nat) : Nat := v + 225
def aT (v t : Nat) : Nat := v + 226 + 3 * t
def aW (v t : Nat) : Nat := v + 227 + 3 * t
def aK (v t : Nat) : Nat := v + 3 + t
def aH (v t : Nat) : Nat := v + 16 + t
def aB (v t : Nat) : Nat := v + 29 + t
def aO (v t : Nat) : Nat := v + 129 + t
def aR (v t : Nat) : Nat := v + 144 + t
def aD (v t : Nat) : Nat := v + 158 + 4 * t
def aL (v t : Nat) : Nat := v + 207 + 4 * t
def aQ (v t : Nat) : Nat := v + 228 + 3 * t
def aG (v t f : Nat) : Nat := v + 238 + 10 * t + f
def aD3 (v i m : Nat) : Nat := v + 159 + 4 * i + m
def aL3 (v t x : Nat) : Nat := v + 208 + 4 * t + x
def o0 (a : Nat) : Nat := a + 1
def o7 (a : Nat) : Nat := a + 718
def o8 (a : Nat) : Nat := a + 719
def o9 (a : Nat) : Nat := a + 720
def o10 (a : Nat) : Nat := a + 721
def o12 (a : Nat) : Nat := a + 722
def o13 (a : Nat) : Nat := a + 723
def o14 (a : Nat) : Nat := a + 737
def o15 (a : Nat) : Nat := a + 738
def o16 (a : Nat) : Nat := a + 739
def o17 (a : Nat) : Nat := a + 740
def aLe (a i : Nat) : Nat := a + 724 + i
/-- what an int of a valley is: its field and place; 999: none -/
def vdc (x j : Nat) : Nat × Nat :=
  if x < 1 then (match j with | 14 => (1, 0) | 15 => (2, 0) | 16 => (16, 0) | 17 => (22, 0) | 18 => (55, 0) | 19 => (18, 0) | 20 => (17, 0) | _ => (999, 0))
  else if x < 3 then (999, 0)
  else if x < 15 then (if j < 10 then (9, 10 * (x - 3) + j) else (999, 0))
  else if x < 16 then (999, 0)
  else if x < 28 then (if j < 3 then (11, 3 * (x - 16) + j) else (999, 0))
  else if x < 29 then (999, 0)
  else if x < 128 then (if j < 5 then (23 + j, x - 29) else (999, 0))
  else if x < 141 then (999, 0)
  else if x < 142 then (if j < 20 then (19, j) else (999, 0))
  else if x < 143 then (if j < 12 then (20, j) else (999, 0))
  else if x < 144 then (999, 0)
  else if x < 156 then (if j < 4 then (10, 4 * (x - 144) + j) else (999, 0))
  else if x < 157 then (if j < 10 then (8, j) else (999, 0))
  else if x < 158 then (999, 0)
  else if x < 206 then (if (x - 158) % 4 = 0 then (999, 0) else if j < 3 then (50, 9 * ((x - 158) / 4) + 3 * ((x - 158) % 4 - 1) + j) else (999, 0))
  else if x < 207 then (999, 0)
  else if x < 223 then (if (x - 207) % 4 = 0 then (999, 0) else if j < 3 then (58, 9 * ((x - 207) / 4) + 3 * ((x - 207) % 4 - 1) + j) else (999, 0))
  else if x < 224 then (if j < 9 then (52, j) else (999, 0))
  else if x < 225 then (if j < 9 then (53, j) else (999, 0))
  else if x < 226 then (if j < 9 then (56, j) else (999, 0))
  else if x < 238 then (if (x - 226) % 3 = 0 then (match j with | 0 => (65, (x - 226) / 3) | 3 => (3, (x - 226) / 3) | 4 => (4, (x - 226) / 3) | 5 => (5, (x - 226) / 3) | 6 => (6, (x - 226) / 3) | 7 => (21, (x - 226) / 3) | 8 => (45, (x - 226) / 3) | 9 => (28, (x - 226) / 3) | 10 => (30, (x - 226) / 3) | 11 => (31, (x - 226) / 3) | 12 => (29, (x - 226) / 3) | _ => (999, 0))
    else if (x - 226) % 3 = 1 then (if j < 3 then (7, 3 * ((x - 226) / 3) + j) else (999, 0)) else (999, 0))
  else if j < 4 then (12 + j, x - 238) else (999, 0)
/-- what an int of OneEye is -/
def gdc (x j : Nat) : Nat × Nat :=
  if x < 1 then (if j < 19 then (match j with | 1 => (34, 0) | 2 => (41, 0) | 3 => (42, 0) | 6 => (61, 0) | 11 => (211, 0) | 18 => (218, 0) | _ => (999, 0)) else (999, 0))
  else if x < 2 then (if j < 400 then (33, j) else (999, 0))
  else if x < 360 then (if j < 21 then vdc (x - 2) j else (999, 0))
  else if x < 718 then (if j < 21 then ((vdc (x - 360) j).1 + 100, (vdc (x - 360) j).2) else (999, 0))
  else if x < 719 then (if j < 216 then (207, j) else (999, 0))
  else if x < 720 then (if j < 216 then (208, j) else (999, 0))
  else if x < 721 then (if j < 5184 then (209, j) else (999, 0))
  else if x < 722 then (if j < 5184 then (210, j) else (999, 0))
  else if x < 723 then (if j < 4 then (212, j) else (999, 0))
  else if x < 724 then (999, 0)
  else if x < 737 then (if j < 27 then (213, 27 * (x - 724) + j) else (999, 0))
  else if x < 738 then (if j < 9 then (214, j) else (999, 0))
  else if x < 739 then (if j < 9 then (215, j) else (999, 0))
  else if x < 740 then (if j < 9 then (216, j) else (999, 0))
  else if x < 741 then (if j < 3 then (217, j) else (999, 0))
  else (999, 0)
/-- where a field's place lies in a valley -/
def vad (f i : Nat) : Nat × Nat := match f with
  | 1 => (0, 14) | 2 => (0, 15) | 16 => (0, 16) | 22 => (0, 17) | 55 => (0, 18) | 18 => (0, 19) | 17 => (0, 20)
  | 9 => (3 + i / 10, i % 10) | 11 => (16 + i / 3, i % 3)
  | 23 => (29 + i, 0) | 24 => (29 + i, 1) | 25 => (29 + i, 2) | 26 => (29 + i, 3) | 27 => (29 + i, 4)
  | 19 => (141, i) | 20 => (142, i) | 10 => (144 + i / 4, i % 4) | 8 => (156, i)
  | 50 => (159 + 4 * (i / 9) + i / 3 % 3, i % 3) | 58 => (208 + 4 * (i / 9) + i / 3 % 3, i % 3)
  | 52 => (223, i) | 53 => (224, i) | 56 => (225, i)
  | 65 => (226 + 3 * i, 0) | 3 => (226 + 3 * i, 3) | 4 => (226 + 3 * i, 4) | 5 => (226 + 3 * i, 5) | 6 => (226 + 3 * i, 6) | 21 => (226 + 3 * i, 7) | 45 => (226 + 3 * i, 8) | 28 => (226 + 3 * i, 9) | 30 => (226 + 3 * i, 10) | 31 => (226 + 3 * i, 11) | 29 => (226 + 3 * i, 12)
  | 7 => (227 + 3 * (i / 3), i % 3)
  | 12 => (238 + i, 0) | 13 => (238 + i, 1) | 14 => (238 + i, 2) | 15 => (238 + i, 3)
  | _ => (0, 0)
def gad (f i : Nat) : Nat × Nat := match f with
  | 34 => (0, 1) | 41 => (0, 2) | 42 => (0, 3) | 61 => (0, 6) | 211 => (0, 11) | 218 => (0, 18)
  | 33 => (1, i) | 207 => (718, i) | 208 => (719, i) | 209 => (720, i) | 210 => (721, i) | 212 => (722, i) | 213 => (724 + i / 27, i % 27) | 214 => (737, i) | 215 => (738, i) | 216 => (739, i) | 217 => (740, i)
  | _ => if f < 100 then ((vad f i).1 + 2, (vad f i).2) else ((vad (f - 100) i).1 + 360, (vad (f - 100) i).2)
theorem vdc_ok : ∀ x : Fin 358, ∀ j : Fin 21, (vdc x.1 j.1).1 < 100 ∧ gad (vdc x.1 j.1).1 (vdc x.1 j.1).2 = (x.1 + 2, j.1) ∧ gad ((vdc x.1 j.1).1 + 100) (vdc x.1 j.1).2 = (x.1 + 360, j.1) ∨ (vdc x.1 j.1).1 = 999 := by decide +kernel
theorem least_ok : ∀ x : Fin 13, ∀ j : Fin 27, gad 213 (27 * x.1 + j.1) = (x.1 + 724, j.1) := by decide +kernel
theorem gdc0_ok : ∀ j : Fin 19, (gdc 0 j.1).1 < 900 → gad (gdc 0 j.1).1 (gdc 0 j.1).2 = (0, j.1) := by decide +kernel
theorem gdc_gad {x j : Nat} (h : (gdc x j).1 < 900) : gad (gdc x j).1 (gdc x j).2 = (x, j) := by
  by_cases h0 : x < 1
  · obtain rfl : x = 0 := by omega
    by_cases hj : j < 19
    · exact gdc0_ok ⟨j, hj⟩ h
    · exfalso
      revert h
      unfold gdc
      rw [if_pos h0, if_neg hj]
      decide
  revert h
  unfold gdc
  rw [if_neg h0]
  by_cases h1 : x < 2
  · rw [if_pos h1]
    obtain rfl : x = 1 := by omega
    split
    · intro _; rfl
    · intro h; exact absurd h (by decide)
  rw [if_neg h1]
  by_cases h2 : x < 360
  · rw [if_pos h2]
    split
    · next hj =>
      intro h
      rcases vdc_ok ⟨x - 2, by omega⟩ ⟨j, hj⟩ with k | k
      · have this : gad (vdc (x - 2) j).1 (vdc (x - 2) j).2 = (x - 2 + 2, j) := k.2.1
        rw [this, show x - 2 + 2 = x from by omega]
      · have this : (vdc (x - 2) j).1 = 999 := k
        exact absurd h (by omega)
    · intro h; exact absurd h (by decide)
  rw [if_neg h2]
  by_cases h3 : x < 718
  · rw [if_pos h3]
    split
    · next hj =>
      dsimp only
      intro h
      rcases vdc_ok ⟨x - 360, by omega⟩ ⟨j, hj⟩ with k | k
      · have this : gad ((vdc (x - 360) j).1 + 100) (vdc (x - 360) j).2 = (x - 360 + 360, j) := k.2.2
        rw [this, show x - 360 + 360 = x from by omega]
      · have this : (vdc (x - 360) j).1 = 999 := k
        exact absurd h (by omega)
    · intro h; exact absurd h (by decide)
  rw [if_neg h3]
  by_cases g719 : x < 719
  · rw [if_pos g719]
    obtain rfl : x = 718 := by omega
    split
    · intro _; rfl
    · intro h; exact absurd h (by decide)
  rw [if_neg g719]
  by_cases g720 : x < 720
  · rw [if_pos g720]
    obtain rfl : x = 719 := by omega
    split
    · intro _; rfl
    · intro h; exact absurd h (by decide)
  rw [if_neg g720]
  by_cases g721 : x < 721
  · rw [if_pos g721]
    obtain rfl : x = 720 := by omega
    split
    · intro _; rfl
    · intro h; exact absurd h (by decide)
  rw [if_neg g721]
  by_cases g722 : x < 722
  · rw [if_pos g722]
    obtain rfl : x = 721 := by omega
    split
    · intro _; rfl
    · intro h; exact absurd h (by decide)
  rw [if_neg g722]
  by_cases g723 : x < 723
  · rw [if_pos g723]
    obtain rfl : x = 722 := by omega
    split
    · intro _; rfl
    · intro h; exact absurd h (by decide)
  rw [if_neg g723]
  by_cases g724 : x < 724
  · rw [if_pos g724]
    intro h; exact absurd h (by decide)
  rw [if_neg g724]
  by_cases g737 : x < 737
  · rw [if_pos g737]
    split
    · next hj =>
      intro _
      have this : gad 213 (27 * (x - 724) + j) = (x - 724 + 724, j) := least_ok ⟨x - 724, by omega⟩ ⟨j, hj⟩
      show gad 213 (27 * (x - 724) + j) = (x, j)
      rw [this, show x - 724 + 724 = x from by omega]
    · intro h; exact absurd h (by decide)
  rw [if_neg g737]
  by_cases g738 : x < 738
  · rw [if_pos g738]
    obtain rfl : x = 737 := by omega
    split
    · intro _; rfl
    · intro h; exact absurd h (by decide)
  rw [if_neg g738]
  by_cases g739 : x < 739
  · rw [if_pos g739]
    obtain rfl : x = 738 := by omega
    split
    · intro _; rfl
    · intro h; exact absurd h (by decide)
  rw [if_neg g739]
  by_cases g740 : x < 740
  · rw [if_pos g740]
    obtain rfl : x = 739 := by omega
    split
    · intro _; rfl
    · intro h; exact absurd h (by decide)
  rw [if_neg g740]
  by_cases g741 : x < 741
  · rw [if_pos g741]
    obtain rfl : x = 740 := by omega
    split
    · intro _; rfl
    · intro h; exact absurd h (by decide)
  rw [if_neg g741]
  intro h; exact absurd h (by decide)
/-- memory with the numbers Y in OneEye's places, I elsewhere -/
def enc (a : Nat) (Y : zT) (I : zT) : zT := fun x j => if a ≤ x ∧ (gdc (x - a) j).1 < 900 then Y (gdc (x - a) j).1 (gdc (x - a) j).2 else I x j
def view (a : Nat) (I : zT) : zT := fun f i => I (a + (gad f i).1) (gad f i).2
theorem enc_app {a x j : Nat} {Y I : zT} : enc a Y I x j = if a ≤ x ∧ (gdc (x - a) j).1 < 900 then Y (gdc (x - a) j).1 (gdc (x - a) j).2 else I x j := rfl
theorem zset_app {Z : zT} {k i k' i' : Nat} {v : Int32} : zset Z k i v k' i' = if k' = k ∧ i' = i then v else Z k' i' := rfl
theorem zclr_app {I : zT} {q x j : Nat} : zclr I q x j = if x = q then 0 else I x j := rfl
theorem enc_view (a : Nat) (I : zT) : enc a (view a I) I = I := by
  funext x j
  unfold enc
  split
  · next h =>
    unfold view
    rw [gdc_gad h.2]
    show I (a + (x - a)) j = I x j
    rw [show a + (x - a) = x from by omega]
  · rfl
theorem enc_r {a x j f i y : Nat} {Y I : zT} (hx : y = a + x) (h : gdc x j = (f, i)) (hf : f < 900) : enc a Y I y j = Y f i := by
  subst hx
  unfold enc
  rw [show a + x - a = x from by omega, h]
  exact if_pos ⟨by omega, hf⟩
theorem enc_w {a x j f i y : Nat} {Y I : zT} {w : Int32} (hx : y = a + x) (h : gdc x j = (f, i)) (hf : f < 900) : zset (enc a Y I) y j w = enc a (zset Y f i w) I := by
  subst hx
  funext x' j'
  simp only [enc_app, zset_app]
  by_cases e : x' = a + x ∧ j' = j
  · obtain ⟨rfl, rfl⟩ := e
    rw [if_pos ⟨rfl, rfl⟩, show a + x - a = x from by omega, h]
    rw [if_pos ⟨by omega, hf⟩, if_pos ⟨rfl, rfl⟩]
  · rw [if_neg e]
    by_cases c : a ≤ x' ∧ (gdc (x' - a) j').1 < 900
    · rw [if_pos c, if_pos c]
      rw [if_neg]
      intro k
      apply e
      have g1 := gdc_gad c.2
      have g2 := gdc_gad (x := x) (j := j) (by rw [h]; exact hf)
      rw [h] at g2
      rw [k.1, k.2] at g1
      have g3 := g1.symm.trans g2
      have g4 : x' - a = x := congrArg Prod.fst g3
      exact ⟨by omega, congrArg Prod.snd g3⟩
    · rw [if_neg c, if_neg c]
theorem enc_o {a y j : Nat} {Y I : zT} (h : a + 741 ≤ y) : enc a Y I y j = I y j := by
  unfold enc
  have e : gdc (y - a) j = (999, 0) := by
    unfold gdc
    repeat rw [if_neg (by omega)]
  rw [e]
  exact if_neg (by omega)
theorem enc_ow {a y j : Nat} {Y I : zT} {w : Int32} (h : a + 741 ≤ y) : zset (enc a Y I) y j w = enc a Y (zset I y j w) := by
  funext x' j'
  by_cases e : x' = y ∧ j' = j
  · obtain ⟨rfl, rfl⟩ := e
    rw [enc_o h, zset_app, zset_app, if_pos ⟨rfl, rfl⟩, if_pos ⟨rfl, rfl⟩]
  · rw [zset_app, if_neg e]
    simp only [enc_app]
    by_cases c : a ≤ x' ∧ (gdc (x' - a) j').1 < 900
    · rw [if_pos c, if_pos c]
    · rw [if_neg c, if_neg c, zset_app, if_neg e]
theorem enc_clr {a y : Nat} {Y I : zT} (h : a + 741 ≤ y) : zclr (enc a Y I) y = enc a Y (zclr I y) := by
  funext x' j'
  by_cases e : x' = y
  · subst e
    rw [enc_o h, zclr_app, zclr_app, if_pos rfl, if_pos rfl]
  · rw [zclr_app, if_neg e]
    simp only [enc_app]
    by_cases c : a ≤ x' ∧ (gdc (x' - a) j').1 < 900
    · rw [if_pos c, if_pos c]
    · rw [if_neg c, if_neg c, zclr_app, if_neg e]
theorem enc_q {a v t j : Nat} {Y I : zT} (hv : v = a + 2 ∨ v = a + 360) (ht : t < 4) : enc a Y I (aQ v t) j = I (aQ v t) j := by
  unfold enc aQ
  refine if_neg ?_
  rintro ⟨_, h2⟩
  revert h2
  unfold gdc
  rcases hv with rfl | rfl
  · rw [show a + 2 + 228 + 3 * t - a = 230 + 3 * t from by omega]
    rw [if_neg (by omega), if_neg (by omega), if_pos (by omega)]
    split
    · unfold vdc
      repeat first | rw [if_pos (by omega)] | rw [if_neg (by omega)]
      decide
    · decide
  · rw [show a + 360 + 228 + 3 * t - a = 588 + 3 * t from by omega]
    rw [if_neg (by omega), if_neg (by omega), if_neg (by omega), if_pos (by omega)]
    split
    · unfold vdc
      repeat first | rw [if_pos (by omega)] | rw [if_neg (by omega)]
      decide
    · decide
theorem gd_s14 : gdc (2 + (0)) 14 = (1, 0) := by decide +kernel
theorem er_s14 {a v : Nat} {Y I : zT} (hv : v = a + 2) : enc a Y I (v) 14 = Y 1 (0) := enc_r (x := 2 + (0)) (by subst hv; omega) (gd_s14) (by omega)
theorem ew_s14 {a v : Nat} {Y I : zT} (hv : v = a + 2) {w : Int32} : zset (enc a Y I) (v) 14 w = enc a (zset Y 1 (0) w) I := enc_w (x := 2 + (0)) (by subst hv; omega) (gd_s14) (by omega)
theorem gdk_s14 : gdc (360 + (0)) 14 = (101, 0) := by decide +kernel
theorem erk_s14 {a v : Nat} {Y I : zT} (hv : v = a + 360) : enc a Y I (v) 14 = Y 101 (0) := enc_r (x := 360 + (0)) (by subst hv; omega) (gdk_s14) (by omega)
theorem ewk_s14 {a v : Nat} {Y I : zT} (hv : v = a + 360) {w : Int32} : zset (enc a Y I) (v) 14 w = enc a (zset Y 101 (0) w) I := enc_w (x := 360 + (0)) (by subst hv; omega) (gdk_s14) (by omega)
theorem gd_s15 : gdc (2 + (0)) 15 = (2, 0) := by decide +kernel
theorem er_s15 {a v : Nat} {Y I : zT} (hv : v = a + 2) : enc a Y I (v) 15 = Y 2 (0) := enc_r (x := 2 + (0)) (by subst hv; omega) (gd_s15) (by omega)
theorem ew_s15 {a v : Nat} {Y I : zT} (hv : v = a + 2) {w : Int32} : zset (enc a Y I) (v) 15 w = enc a (zset Y 2 (0) w) I := enc_w (x := 2 + (0)) (by subst hv; omega) (gd_s15) (by omega)
theorem gdk_s15 : gdc (360 + (0)) 15 = (102, 0) := by decide +kernel
theorem erk_s15 {a v : Nat} {Y I : zT} (hv : v = a + 360) : enc a Y I (v) 15 = Y 102 (0) := enc_r (x := 360 + (0)) (by subst hv; omega) (gdk_s15) (by omega)
theorem ewk_s15 {a v : Nat} {Y I : zT} (hv : v = a + 360) {w : Int32} : zset (enc a Y I) (v) 15 w = enc a (zset Y 102 (0) w) I := enc_w (x := 360 + (0)) (by subst hv; omega) (gdk_s15) (by omega)
theorem gd_s16 : gdc (2 + (0)) 16 = (16, 0) := by decide +kernel
theorem er_s16 {a v : Nat} {Y I : zT} (hv : v = a + 2) : enc a Y I (v) 16 = Y 16 (0) := enc_r (x := 2 + (0)) (by subst hv; omega) (gd_s16) (by omega)
theorem ew_s16 {a v : Nat} {Y I : zT} (hv : v = a + 2) {w : Int32} : zset (enc a Y I) (v) 16 w = enc a (zset Y 16 (0) w) I := enc_w (x := 2 + (0)) (by subst hv; omega) (gd_s16) (by omega)
theorem gdk_s16 : gdc (360 + (0)) 16 = (116, 0) := by decide +kernel
theorem erk_s16 {a v : Nat} {Y I : zT} (hv : v = a + 360) : enc a Y I (v) 16 = Y 116 (0) := enc_r (x := 360 + (0)) (by subst hv; omega) (gdk_s16) (by omega)
theorem ewk_s16 {a v : Nat} {Y I : zT} (hv : v = a + 360) {w : Int32} : zset (enc a Y I) (v) 16 w = enc a (zset Y 116 (0) w) I := enc_w (x := 360 + (0)) (by subst hv; omega) (gdk_s16) (by omega)
theorem gd_s17 : gdc (2 + (0)) 17 = (22, 0) := by decide +kernel
theorem er_s17 {a v : Nat} {Y I : zT} (hv : v = a + 2) : enc a Y I (v) 17 = Y 22 (0) := enc_r (x := 2 + (0)) (by subst hv; omega) (gd_s17) (by omega)
theorem ew_s17 {a v : Nat} {Y I : zT} (hv : v = a + 2) {w : Int32} : zset (enc a Y I) (v) 17 w = enc a (zset Y 22 (0) w) I := enc_w (x := 2 + (0)) (by subst hv; omega) (gd_s17) (by omega)
theorem gdk_s17 : gdc (360 + (0)) 17 = (122, 0) := by decide +kernel
theorem erk_s17 {a v : Nat} {Y I : zT} (hv : v = a + 360) : enc a Y I (v) 17 = Y 122 (0) := enc_r (x := 360 + (0)) (by subst hv; omega) (gdk_s17) (by omega)
theorem ewk_s17 {a v : Nat} {Y I : zT} (hv : v = a + 360) {w : Int32} : zset (enc a Y I) (v) 17 w = enc a (zset Y 122 (0) w) I := enc_w (x := 360 + (0)) (by subst hv; omega) (gdk_s17) (by omega)
theorem gd_s18 : gdc (2 + (0)) 18 = (55, 0) := by decide +kernel
theorem er_s18 {a v : Nat} {Y I : zT} (hv : v = a + 2) : enc a Y I (v) 18 = Y 55 (0) := enc_r (x := 2 + (0)) (by subst hv; omega) (gd_s18) (by omega)
theorem ew_s18 {a v : Nat} {Y I : zT} (hv : v = a + 2) {w : Int32} : zset (enc a Y I) (v) 18 w = enc a (zset Y 55 (0) w) I := enc_w (x := 2 + (0)) (by subst hv; omega) (gd_s18) (by omega)
theorem gdk_s18 : gdc (360 + (0)) 18 = (155, 0) := by decide +kernel
theorem erk_s18 {a v : Nat} {Y I : zT} (hv : v = a + 360) : enc a Y I (v) 18 = Y 155 (0) := enc_r (x := 360 + (0)) (by subst hv; omega) (gdk_s18) (by omega)
theorem ewk_s18 {a v : Nat} {Y I : zT} (hv : v = a + 360) {w : Int32} : zset (enc a Y I) (v) 18 w = enc a (zset Y 155 (0) w) I := enc_w (x := 360 + (0)) (by subst hv; omega) (gdk_s18) (by omega)
theorem gd_s19 : gdc (2 + (0)) 19 = (18, 0) := by decide +kernel
theorem er_s19 {a v : Nat} {Y I : zT} (hv : v = a + 2) : enc a Y I (v) 19 = Y 18 (0) := enc_r (x := 2 + (0)) (by subst hv; omega) (gd_s19) (by omega)
theorem ew_s19 {a v : Nat} {Y I : zT} (hv : v = a + 2) {w : Int32} : zset (enc a Y I) (v) 19 w = enc a (zset Y 18 (0) w) I := enc_w (x := 2 + (0)) (by subst hv; omega) (gd_s19) (by omega)
theorem gdk_s19 : gdc (360 + (0)) 19 = (118, 0) := by decide +kernel
theorem erk_s19 {a v : Nat} {Y I : zT} (hv : v = a + 360) : enc a Y I (v) 19 = Y 118 (0) := enc_r (x := 360 + (0)) (by subst hv; omega) (gdk_s19) (by omega)
theorem ewk_s19 {a v : Nat} {Y I : zT} (hv : v = a + 360) {w : Int32} : zset (enc a Y I) (v) 19 w = enc a (zset Y 118 (0) w) I := enc_w (x := 360 + (0)) (by subst hv; omega) (gdk_s19) (by omega)
theorem gd_s20 : gdc (2 + (0)) 20 = (17, 0) := by decide +kernel
theorem er_s20 {a v : Nat} {Y I : zT} (hv : v = a + 2) : enc a Y I (v) 20 = Y 17 (0) := enc_r (x := 2 + (0)) (by subst hv; omega) (gd_s20) (by omega)
theorem ew_s20 {a v : Nat} {Y I : zT} (hv : v = a + 2) {w : Int32} : zset (enc a Y I) (v) 20 w = enc a (zset Y 17 (0) w) I := enc_w (x := 2 + (0)) (by subst hv; omega) (gd_s20) (by omega)
theorem gdk_s20 : gdc (360 + (0)) 20 = (117, 0) := by decide +kernel
theorem erk_s20 {a v : Nat} {Y I : zT} (hv : v = a + 360) : enc a Y I (v) 20 = Y 117 (0) := enc_r (x := 360 + (0)) (by subst hv; omega) (gdk_s20) (by omega)
theorem ewk_s20 {a v : Nat} {Y I : zT} (hv : v = a + 360) {w : Int32} : zset (enc a Y I) (v) 20 w = enc a (zset Y 117 (0) w) I := enc_w (x := 360 + (0)) (by subst hv; omega) (gdk_s20) (by omega)
theorem gd_t0 : ∀ t : Fin 4, gdc (2 + (226 + 3 * t.1)) 0 = (65, t.1) := by decide +kernel
theorem er_t0 {a v t : Nat} {Y I : zT} (hv : v = a + 2) (ht : t < 4) : enc a Y I (aT v t) 0 = Y 65 (t) := enc_r (x := 2 + (226 + 3 * t)) (by subst hv; unfold aT; omega) (gd_t0 ⟨t, ht⟩) (by omega)
theorem ew_t0 {a v t : Nat} {Y I : zT} (hv : v = a + 2) (ht : t < 4) {w : Int32} : zset (enc a Y I) (aT v t) 0 w = enc a (zset Y 65 (t) w) I := enc_w (x := 2 + (226 + 3 * t)) (by subst hv; unfold aT; omega) (gd_t0 ⟨t, ht⟩) (by omega)
theorem gdk_t0 : ∀ t : Fin 4, gdc (360 + (226 + 3 * t.1)) 0 = (165, t.1) := by decide +kernel
theorem erk_t0 {a v t : Nat} {Y I : zT} (hv : v = a + 360) (ht : t < 4) : enc a Y I (aT v t) 0 = Y 165 (t) := enc_r (x := 360 + (226 + 3 * t)) (by subst hv; unfold aT; omega) (gdk_t0 ⟨t, ht⟩) (by omega)
theorem ewk_t0 {a v t : Nat} {Y I : zT} (hv : v = a + 360) (ht : t < 4) {w : Int32} : zset (enc a Y I) (aT v t) 0 w = enc a (zset Y 165 (t) w) I := enc_w (x := 360 + (226 + 3 * t)) (by subst hv; unfold aT; omega) (gdk_t0 ⟨t, ht⟩) (by omega)
theorem gd_t3 : ∀ t : Fin 4, gdc (2 + (226 + 3 * t.1)) 3 = (3, t.1) := by decide +kernel
theorem er_t3 {a v t : Nat} {Y I : zT} (hv : v = a + 2) (ht : t < 4) : enc a Y I (aT v t) 3 = Y 3 (t) := enc_r (x := 2 + (226 + 3 * t)) (by subst hv; unfold aT; omega) (gd_t3 ⟨t, ht⟩) (by omega)
theorem ew_t3 {a v t : Nat} {Y I : zT} (hv : v = a + 2) (ht : t < 4) {w : Int32} : zset (enc a Y I) (aT v t) 3 w = enc a (zset Y 3 (t) w) I := enc_w (x := 2 + (226 + 3 * t)) (by subst hv; unfold aT; omega) (gd_t3 ⟨t, ht⟩) (by omega)
theorem gdk_t3 : ∀ t : Fin 4, gdc (360 + (226 + 3 * t.1)) 3 = (103, t.1) := by decide +kernel
theorem erk_t3 {a v t : Nat} {Y I : zT} (hv : v = a + 360) (ht : t < 4) : enc a Y I (aT v t) 3 = Y 103 (t) := enc_r (x := 360 + (226 + 3 * t)) (by subst hv; unfold aT; omega) (gdk_t3 ⟨t, ht⟩) (by omega)
theorem ewk_t3 {a v t : Nat} {Y I : zT} (hv : v = a + 360) (ht : t < 4) {w : Int32} : zset (enc a Y I) (aT v t) 3 w = enc a (zset Y 103 (t) w) I := enc_w (x := 360 + (226 + 3 * t)) (by subst hv; unfold aT; omega) (gdk_t3 ⟨t, ht⟩) (by omega)
theorem gd_t4 : ∀ t : Fin 4, gdc (2 + (226 + 3 * t.1)) 4 = (4, t.1) := by decide +kernel
theorem er_t4 {a v t : Nat} {Y I : zT} (hv : v = a + 2) (ht : t < 4) : enc a Y I (aT v t) 4 = Y 4 (t) := enc_r (x := 2 + (226 + 3 * t)) (by subst hv; unfold aT; omega) (gd_t4 ⟨t, ht⟩) (by omega)
theorem ew_t4 {a v t : Nat} {Y I : zT} (hv : v = a + 2) (ht : t < 4) {w : Int32} : zset (enc a Y I) (aT v t) 4 w = enc a (zset Y 4 (t) w) I := enc_w (x := 2 + (226 + 3 * t)) (by subst hv; unfold aT; omega) (gd_t4 ⟨t, ht⟩) (by omega)
theorem gdk_t4 : ∀ t : Fin 4, gdc (360 + (226 + 3 * t.1)) 4 = (104, t.1) := by decide +kernel
theorem erk_t4 {a v t : Nat} {Y I : zT} (hv : v = a + 360) (ht : t < 4) : enc a Y I (aT v t) 4 = Y 104 (t) := enc_r (x := 360 + (226 + 3 * t)) (by subst hv; unfold aT; omega) (gdk_t4 ⟨t, ht⟩) (by omega)
theorem ewk_t4 {a v t : Nat} {Y I : zT} (hv : v = a + 360) (ht : t < 4) {w : Int32} : zset (enc a Y I) (aT v t) 4 w = enc a (zset Y 104 (t) w) I := enc_w (x := 360 + (226 + 3 * t)) (by subst hv; unfold aT; omega) (gdk_t4 ⟨t, ht⟩) (by omega)
theorem gd_t5 : ∀ t : Fin 4, gdc (2 + (226 + 3 * t.1)) 5 = (5, t.1) := by decide +kernel
theorem er_t5 {a v t : Nat} {Y I : zT} (hv : v = a + 2) (ht : t < 4) : enc a Y I (aT v t) 5 = Y 5 (t) := enc_r (x := 2 + (226 + 3 * t)) (by subst hv; unfold aT; omega) (gd_t5 ⟨t, ht⟩) (by omega)
theorem ew_t5 {a v t : Nat} {Y I : zT} (hv : v = a + 2) (ht : t < 4) {w : Int32} : zset (enc a Y I) (aT v t) 5 w = enc a (zset Y 5 (t) w) I := enc_w (x := 2 + (226 + 3 * t)) (by subst hv; unfold aT; omega) (gd_t5 ⟨t, ht⟩) (by omega)
theorem gdk_t5 : ∀ t : Fin 4, gdc (360 + (226 + 3 * t.1)) 5 = (105, t.1) := by decide +kernel
theorem erk_t5 {a v t : Nat} {Y I : zT} (hv : v = a + 360) (ht : t < 4) : enc a Y I (aT v t) 5 = Y 105 (t) := enc_r (x := 360 + (226 + 3 * t)) (by subst hv; unfold aT; omega) (gdk_t5 ⟨t, ht⟩) (by omega)
theorem ewk_t5 {a v t : Nat} {Y I : zT} (hv : v = a + 360) (ht : t < 4) {w : Int32} : zset (enc a Y I) (aT v t) 5 w = enc a (zset Y 105 (t) w) I := enc_w (x := 360 + (226 + 3 * t)) (by subst hv; unfold aT; omega) (gdk_t5 ⟨t, ht⟩) (by omega)
theorem gd_t6 : ∀ t : Fin 4, gdc (2 + (226 + 3 * t.1)) 6 = (6, t.1) := by decide +kernel
theorem er_t6 {a v t : Nat} {Y I : zT} (hv : v = a + 2) (ht : t < 4) : enc a Y I (aT v t) 6 = Y 6 (t) := enc_r (x := 2 + (226 + 3 * t)) (by subst hv; unfold aT; omega) (gd_t6 ⟨t, ht⟩) (by omega)
theorem ew_t6 {a v t : Nat} {Y I : zT} (hv : v = a + 2) (ht : t < 4) {w : Int32} : zset (enc a Y I) (aT v t) 6 w = enc a (zset Y 6 (t) w) I := enc_w (x := 2 + (226 + 3 * t)) (by subst hv; unfold aT; omega) (gd_t6 ⟨t, ht⟩) (by omega)
theorem gdk_t6 : ∀ t : Fin 4, gdc (360 + (226 + 3 * t.1)) 6 = (106, t.1) := by decide +kernel
theorem erk_t6 {a v t : Nat} {Y I : zT} (hv : v = a + 360) (ht : t < 4) : enc a Y I (aT v t) 6 = Y 106 (t) := enc_r (x := 360 + (226 + 3 * t)) (by subst hv; unfold aT; omega) (gdk_t6 ⟨t, ht⟩) (by omega)
theorem ewk_t6 {a v t : Nat} {Y I : zT} (hv : v = a + 360) (ht : t < 4) {w : Int32} : zset (enc a Y I) (aT v t) 6 w = enc a (zset Y 106 (t) w) I := enc_w (x := 360 + (226 + 3 * t)) (by subst hv; unfold aT; omega) (gdk_t6 ⟨t, ht⟩) (by omega)
theorem gd_t7 : ∀ t : Fin 4, gdc (2 + (226 + 3 * t.1)) 7 = (21, t.1) := by decide +kernel
theorem er_t7 {a v t : Nat} {Y I : zT} (hv : v = a + 2) (ht : t < 4) : enc a Y I (aT v t) 7 = Y 21 (t) := enc_r (x := 2 + (226 + 3 * t)) (by subst hv; unfold aT; omega) (gd_t7 ⟨t, ht⟩) (by omega)
theorem ew_t7 {a v t : Nat} {Y I : zT} (hv : v = a + 2) (ht : t < 4) {w : Int32} : zset (enc a Y I) (aT v t) 7 w = enc a (zset Y 21 (t) w) I := enc_w (x := 2 + (226 + 3 * t)) (by subst hv; unfold aT; omega) (gd_t7 ⟨t, ht⟩) (by omega)
theorem gdk_t7 : ∀ t : Fin 4, gdc (360 + (226 + 3 * t.1)) 7 = (121, t.1) := by decide +kernel
theorem erk_t7 {a v t : Nat} {Y I : zT} (hv : v = a + 360) (ht : t < 4) : enc a Y I (aT v t) 7 = Y 121 (t) := enc_r (x := 360 + (226 + 3 * t)) (by subst hv; unfold aT; omega) (gdk_t7 ⟨t, ht⟩) (by omega)
theorem ewk_t7 {a v t : Nat} {Y I : zT} (hv : v = a + 360) (ht : t < 4) {w : Int32} : zset (enc a Y I) (aT v t) 7 w = enc a (zset Y 121 (t) w) I := enc_w (x := 360 + (226 + 3 * t)) (by subst hv; unfold aT; omega) (gdk_t7 ⟨t, ht⟩) (by omega)
theorem gd_t8 : ∀ t : Fin 4, gdc (2 + (226 + 3 * t.1)) 8 = (45, t.1) := by decide +kernel
theorem er_t8 {a v t : Nat} {Y I : zT} (hv : v = a + 2) (ht : t < 4) : enc a Y I (aT v t) 8 = Y 45 (t) := enc_r (x := 2 + (226 + 3 * t)) (by subst hv; unfold aT; omega) (gd_t8 ⟨t, ht⟩) (by omega)
theorem ew_t8 {a v t : Nat} {Y I : zT} (hv : v = a + 2) (ht : t < 4) {w : Int32} : zset (enc a Y I) (aT v t) 8 w = enc a (zset Y 45 (t) w) I := enc_w (x := 2 + (226 + 3 * t)) (by subst hv; unfold aT; omega) (gd_t8 ⟨t, ht⟩) (by omega)
theorem gdk_t8 : ∀ t : Fin 4, gdc (360 + (226 + 3 * t.1)) 8 = (145, t.1) := by decide +kernel
theorem erk_t8 {a v t : Nat} {Y I : zT} (hv : v = a + 360) (ht : t < 4) : enc a Y I (aT v t) 8 = Y 145 (t) := enc_r (x := 360 + (226 + 3 * t)) (by subst hv; unfold aT; omega) (gdk_t8 ⟨t, ht⟩) (by omega)
theorem ewk_t8 {a v t : Nat} {Y I : zT} (hv : v = a + 360) (ht : t < 4) {w : Int32} : zset (enc a Y I) (aT v t) 8 w = enc a (zset Y 145 (t) w) I := enc_w (x := 360 + (226 + 3 * t)) (by subst hv; unfold aT; omega) (gdk_t8 ⟨t, ht⟩) (by omega)
theorem gd_t9 : ∀ t : Fin 4, gdc (2 + (226 + 3 * t.1)) 9 = (28, t.1) := by decide +kernel
theorem er_t9 {a v t : Nat} {Y I : zT} (hv : v = a + 2) (ht : t < 4) : enc a Y I (aT v t) 9 = Y 28 (t) := enc_r (x := 2 + (226 + 3 * t)) (by subst hv; unfold aT; omega) (gd_t9 ⟨t, ht⟩) (by omega)
theorem ew_t9 {a v t : Nat} {Y I : zT} (hv : v = a + 2) (ht : t < 4) {w : Int32} : zset (enc a Y I) (aT v t) 9 w = enc a (zset Y 28 (t) w) I := enc_w (x := 2 + (226 + 3 * t)) (by subst hv; unfold aT; omega) (gd_t9 ⟨t, ht⟩) (by omega)
theorem gdk_t9 : ∀ t : Fin 4, gdc (360 + (226 + 3 * t.1)) 9 = (128, t.1) := by decide +kernel
theorem erk_t9 {a v t : Nat} {Y I : zT} (hv : v = a + 360) (ht : t < 4) : enc a Y I (aT v t) 9 = Y 128 (t) := enc_r (x := 360 + (226 + 3 * t)) (by subst hv; unfold aT; omega) (gdk_t9 ⟨t, ht⟩) (by omega)
theorem ewk_t9 {a v t : Nat} {Y I : zT} (hv : v = a + 360) (ht : t < 4) {w : Int32} : zset (enc a Y I) (aT v t) 9 w = enc a (zset Y 128 (t) w) I := enc_w (x := 360 + (226 + 3 * t)) (by subst hv; unfold aT; omega) (gdk_t9 ⟨t, ht⟩) (by omega)
theorem gd_t10 : ∀ t : Fin 4, gdc (2 + (226 + 3 * t.1)) 10 = (30, t.1) := by decide +kernel
theorem er_t10 {a v t : Nat} {Y I : zT} (hv : v = a + 2) (ht : t < 4) : enc a Y I (aT v t) 10 = Y 30 (t) := enc_r (x := 2 + (226 + 3 * t)) (by subst hv; unfold aT; omega) (gd_t10 ⟨t, ht⟩) (by omega)
theorem ew_t10 {a v t : Nat} {Y I : zT} (hv : v = a + 2) (ht : t < 4) {w : Int32} : zset (enc a Y I) (aT v t) 10 w = enc a (zset Y 30 (t) w) I := enc_w (x := 2 + (226 + 3 * t)) (by subst hv; unfold aT; omega) (gd_t10 ⟨t, ht⟩) (by omega)
theorem gdk_t10 : ∀ t : Fin 4, gdc (360 + (226 + 3 * t.1)) 10 = (130, t.1) := by decide +kernel
theorem erk_t10 {a v t : Nat} {Y I : zT} (hv : v = a + 360) (ht : t < 4) : enc a Y I (aT v t) 10 = Y 130 (t) := enc_r (x := 360 + (226 + 3 * t)) (by subst hv; unfold aT; omega) (gdk_t10 ⟨t, ht⟩) (by omega)
theorem ewk_t10 {a v t : Nat} {Y I : zT} (hv : v = a + 360) (ht : t < 4) {w : Int32} : zset (enc a Y I) (aT v t) 10 w = enc a (zset Y 130 (t) w) I := enc_w (x := 360 + (226 + 3 * t)) (by subst hv; unfold aT; omega) (gdk_t10 ⟨t, ht⟩) (by omega)
theorem gd_t11 : ∀ t : Fin 4, gdc (2 + (226 + 3 * t.1)) 11 = (31, t.1) := by decide +kernel
theorem er_t11 {a v t : Nat} {Y I : zT} (hv : v = a + 2) (ht : t < 4) : enc a Y I (aT v t) 11 = Y 31 (t) := enc_r (x := 2 + (226 + 3 * t)) (by subst hv; unfold aT; omega) (gd_t11 ⟨t, ht⟩) (by omega)
theorem ew_t11 {a v t : Nat} {Y I : zT} (hv : v = a + 2) (ht : t < 4) {w : Int32} : zset (enc a Y I) (aT v t) 11 w = enc a (zset Y 31 (t) w) I := enc_w (x := 2 + (226 + 3 * t)) (by subst hv; unfold aT; omega) (gd_t11 ⟨t, ht⟩) (by omega)
theorem gdk_t11 : ∀ t : Fin 4, gdc (360 + (226 + 3 * t.1)) 11 = (131, t.1) := by decide +kernel
theorem erk_t11 {a v t : Nat} {Y I : zT} (hv : v = a + 360) (ht : t < 4) : enc a Y I (aT v t) 11 = Y 131 (t) := enc_r (x := 360 + (226 + 3 * t)) (by subst hv; unfold aT; omega) (gdk_t11 ⟨t, ht⟩) (by omega)
theorem ewk_t11 {a v t : Nat} {Y I : zT} (hv : v = a + 360) (ht : t < 4) {w : Int32} : zset (enc a Y I) (aT v t) 11 w = enc a (zset Y 131 (t) w) I := enc_w (x := 360 + (226 + 3 * t)) (by subst hv; unfold aT; omega) (gdk_t11 ⟨t, ht⟩) (by omega)
theorem gd_t12 : ∀ t : Fin 4, gdc (2 + (226 + 3 * t.1)) 12 = (29, t.1) := by decide +kernel
theorem er_t12 {a v t : Nat} {Y I : zT} (hv : v = a + 2) (ht : t < 4) : enc a Y I (aT v t) 12 = Y 29 (t) := enc_r (x := 2 + (226 + 3 * t)) (by subst hv; unfold aT; omega) (gd_t12 ⟨t, ht⟩) (by omega)
theorem ew_t12 {a v t : Nat} {Y I : zT} (hv : v = a + 2) (ht : t < 4) {w : Int32} : zset (enc a Y I) (aT v t) 12 w = enc a (zset Y 29 (t) w) I := enc_w (x := 2 + (226 + 3 * t)) (by subst hv; unfold aT; omega) (gd_t12 ⟨t, ht⟩) (by omega)
theorem gdk_t12 : ∀ t : Fin 4, gdc (360 + (226 + 3 * t.1)) 12 = (129, t.1) := by decide +kernel
theorem erk_t12 {a v t : Nat} {Y I : zT} (hv : v = a + 360) (ht : t < 4) : enc a Y I (aT v t) 12 = Y 129 (t) := enc_r (x := 360 + (226 + 3 * t)) (by subst hv; unfold aT; omega) (gdk_t12 ⟨t, ht⟩) (by omega)
theorem ewk_t12 {a v t : Nat} {Y I : zT} (hv : v = a + 360) (ht : t < 4) {w : Int32} : zset (enc a Y I) (aT v t) 12 w = enc a (zset Y 129 (t) w) I := enc_w (x := 360 + (226 + 3 * t)) (by subst hv; unfold aT; omega) (gdk_t12 ⟨t, ht⟩) (by omega)
theorem gd_w : ∀ t : Fin 4, ∀ k : Fin 3, gdc (2 + (227 + 3 * t.1)) k.1 = (7, 3 * t.1 + k.1) := by decide +kernel
theorem er_w {a v t k : Nat} {Y I : zT} (hv : v = a + 2) (ht : t < 4) (hk : k < 3) : enc a Y I (aW v t) k = Y 7 (3 * t + k) := enc_r (x := 2 + (227 + 3 * t)) (by subst hv; unfold aW; omega) (gd_w ⟨t, ht⟩ ⟨k, hk⟩) (by omega)
theorem ew_w {a v t k : Nat} {Y I : zT} (hv : v = a + 2) (ht : t < 4) (hk : k < 3) {w : Int32} : zset (enc a Y I) (aW v t) k w = enc a (zset Y 7 (3 * t + k) w) I := enc_w (x := 2 + (227 + 3 * t)) (by subst hv; unfold aW; omega) (gd_w ⟨t, ht⟩ ⟨k, hk⟩) (by omega)
theorem gdk_w : ∀ t : Fin 4, ∀ k : Fin 3, gdc (360 + (227 + 3 * t.1)) k.1 = (107, 3 * t.1 + k.1) := by decide +kernel
theorem erk_w {a v t k : Nat} {Y I : zT} (hv : v = a + 360) (ht : t < 4) (hk : k < 3) : enc a Y I (aW v t) k = Y 107 (3 * t + k) := enc_r (x := 360 + (227 + 3 * t)) (by subst hv; unfold aW; omega) (gdk_w ⟨t, ht⟩ ⟨k, hk⟩) (by omega)
theorem ewk_w {a v t k : Nat} {Y I : zT} (hv : v = a + 360) (ht : t < 4) (hk : k < 3) {w : Int32} : zset (enc a Y I) (aW v t) k w = enc a (zset Y 107 (3 * t + k) w) I := enc_w (x := 360 + (227 + 3 * t)) (by subst hv; unfold aW; omega) (gdk_w ⟨t, ht⟩ ⟨k, hk⟩) (by omega)
theorem gd_is : ∀ k : Fin 10, gdc (2 + (156)) k.1 = (8, k.1) := by decide +kernel
theorem er_is {a v k : Nat} {Y I : zT} (hv : v = a + 2) (hk : k < 10) : enc a Y I (q8 v) k = Y 8 (k) := enc_r (x := 2 + (156)) (by subst hv; unfold q8; omega) (gd_is ⟨k, hk⟩) (by omega)
theorem ew_is {a v k : Nat} {Y I : zT} (hv : v = a + 2) (hk : k < 10) {w : Int32} : zset (enc a Y I) (q8 v) k w = enc a (zset Y 8 (k) w) I := enc_w (x := 2 + (156)) (by subst hv; unfold q8; omega) (gd_is ⟨k, hk⟩) (by omega)
theorem gdk_is : ∀ k : Fin 10, gdc (360 + (156)) k.1 = (108, k.1) := by decide +kernel
theorem erk_is {a v k : Nat} {Y I : zT} (hv : v = a + 360) (hk : k < 10) : enc a Y I (q8 v) k = Y 108 (k) := enc_r (x := 360 + (156)) (by subst hv; unfold q8; omega) (gdk_is ⟨k, hk⟩) (by omega)
theorem ewk_is {a v k : Nat} {Y I : zT} (hv : v = a + 360) (hk : k < 10) {w : Int32} : zset (enc a Y I) (q8 v) k w = enc a (zset Y 108 (k) w) I := enc_w (x := 360 + (156)) (by subst hv; unfold q8; omega) (gdk_is ⟨k, hk⟩) (by omega)
theorem gd_kn : ∀ t : Fin 12, ∀ k : Fin 10, gdc (2 + (3 + t.1)) k.1 = (9, 10 * t.1 + k.1) := by decide +kernel
theorem er_kn {a v t k : Nat} {Y I : zT} (hv : v = a + 2) (ht : t < 12) (hk : k < 10) : enc a Y I (aK v t) k = Y 9 (10 * t + k) := enc_r (x := 2 + (3 + t)) (by subst hv; unfold aK; omega) (gd_kn ⟨t, ht⟩ ⟨k, hk⟩) (by omega)
theorem ew_kn {a v t k : Nat} {Y I : zT} (hv : v = a + 2) (ht : t < 12) (hk : k < 10) {w : Int32} : zset (enc a Y I) (aK v t) k w = enc a (zset Y 9 (10 * t + k) w) I := enc_w (x := 2 + (3 + t)) (by subst hv; unfold aK; omega) (gd_kn ⟨t, ht⟩ ⟨k, hk⟩) (by omega)
theorem gdk_kn : ∀ t : Fin 12, ∀ k : Fin 10, gdc (360 + (3 + t.1)) k.1 = (109, 10 * t.1 + k.1) := by decide +kernel
theorem erk_kn {a v t k : Nat} {Y I : zT} (hv : v = a + 360) (ht : t < 12) (hk : k < 10) : enc a Y I (aK v t) k = Y 109 (10 * t + k) := enc_r (x := 360 + (3 + t)) (by subst hv; unfold aK; omega) (gdk_kn ⟨t, ht⟩ ⟨k, hk⟩) (by omega)
theorem ewk_kn {a v t k : Nat} {Y I : zT} (hv : v = a + 360) (ht : t < 12) (hk : k < 10) {w : Int32} : zset (enc a Y I) (aK v t) k w = enc a (zset Y 109 (10 * t + k) w) I := enc_w (x := 360 + (3 + t)) (by subst hv; unfold aK; omega) (gdk_kn ⟨t, ht⟩ ⟨k, hk⟩) (by omega)
theorem gd_tr : ∀ t : Fin 12, ∀ k : Fin 4, gdc (2 + (144 + t.1)) k.1 = (10, 4 * t.1 + k.1) := by decide +kernel
theorem er_tr {a v t k : Nat} {Y I : zT} (hv : v = a + 2) (ht : t < 12) (hk : k < 4) : enc a Y I (aR v t) k = Y 10 (4 * t + k) := enc_r (x := 2 + (144 + t)) (by subst hv; unfold aR; omega) (gd_tr ⟨t, ht⟩ ⟨k, hk⟩) (by omega)
theorem ew_tr {a v t k : Nat} {Y I : zT} (hv : v = a + 2) (ht : t < 12) (hk : k < 4) {w : Int32} : zset (enc a Y I) (aR v t) k w = enc a (zset Y 10 (4 * t + k) w) I := enc_w (x := 2 + (144 + t)) (by subst hv; unfold aR; omega) (gd_tr ⟨t, ht⟩ ⟨k, hk⟩) (by omega)
theorem gdk_tr : ∀ t : Fin 12, ∀ k : Fin 4, gdc (360 + (144 + t.1)) k.1 = (110, 4 * t.1 + k.1) := by decide +kernel
theorem erk_tr {a v t k : Nat} {Y I : zT} (hv : v = a + 360) (ht : t < 12) (hk : k < 4) : enc a Y I (aR v t) k = Y 110 (4 * t + k) := enc_r (x := 360 + (144 + t)) (by subst hv; unfold aR; omega) (gdk_tr ⟨t, ht⟩ ⟨k, hk⟩) (by omega)
theorem ewk_tr {a v t k : Nat} {Y I : zT} (hv : v = a + 360) (ht : t < 12) (hk : k < 4) {w : Int32} : zset (enc a Y I) (aR v t) k w = enc a (zset Y 110 (4 * t + k) w) I := enc_w (x := 360 + (144 + t)) (by subst hv; unfold aR; omega) (gdk_tr ⟨t, ht⟩ ⟨k, hk⟩) (by omega)
theorem gd_he : ∀ t : Fin 12, ∀ k : Fin 3, gdc (2 + (16 + t.1)) k.1 = (11, 3 * t.1 + k.1) := by decide +kernel
theorem er_he {a v t k : Nat} {Y I : zT} (hv : v = a + 2) (ht : t < 12) (hk : k < 3) : enc a Y I (aH v t) k = Y 11 (3 * t + k) := enc_r (x := 2 + (16 + t)) (by subst hv; unfold aH; omega) (gd_he ⟨t, ht⟩ ⟨k, hk⟩) (by omega)
theorem ew_he {a v t k : Nat} {Y I : zT} (hv : v = a + 2) (ht : t < 12) (hk : k < 3) {w : Int32} : zset (enc a Y I) (aH v t) k w = enc a (zset Y 11 (3 * t + k) w) I := enc_w (x := 2 + (16 + t)) (by subst hv; unfold aH; omega) (gd_he ⟨t, ht⟩ ⟨k, hk⟩) (by omega)
theorem gdk_he : ∀ t : Fin 12, ∀ k : Fin 3, gdc (360 + (16 + t.1)) k.1 = (111, 3 * t.1 + k.1) := by decide +kernel
theorem erk_he {a v t k : Nat} {Y I : zT} (hv : v = a + 360) (ht : t < 12) (hk : k < 3) : enc a Y I (aH v t) k = Y 111 (3 * t + k) := enc_r (x := 360 + (16 + t)) (by subst hv; unfold aH; omega) (gdk_he ⟨t, ht⟩ ⟨k, hk⟩) (by omega)
theorem ewk_he {a v t k : Nat} {Y I : zT} (hv : v = a + 360) (ht : t < 12) (hk : k < 3) {w : Int32} : zset (enc a Y I) (aH v t) k w = enc a (zset Y 111 (3 * t + k) w) I := enc_w (x := 360 + (16 + t)) (by subst hv; unfold aH; omega) (gdk_he ⟨t, ht⟩ ⟨k, hk⟩) (by omega)
theorem gd_g0 : ∀ t : Fin 12, ∀ k : Fin 10, gdc (2 + (238 + 10 * t.1 + k.1)) 0 = (12, 10 * t.1 + k.1) := by decide +kernel
theorem er_g0 {a v t k : Nat} {Y I : zT} (hv : v = a + 2) (ht : t < 12) (hk : k < 10) : enc a Y I (aG v t k) 0 = Y 12 (10 * t + k) := enc_r (x := 2 + (238 + 10 * t + k)) (by subst hv; unfold aG; omega) (gd_g0 ⟨t, ht⟩ ⟨k, hk⟩) (by omega)
theorem ew_g0 {a v t k : Nat} {Y I : zT} (hv : v = a + 2) (ht : t < 12) (hk : k < 10) {w : Int32} : zset (enc a Y I) (aG v t k) 0 w = enc a (zset Y 12 (10 * t + k) w) I := enc_w (x := 2 + (238 + 10 * t + k)) (by subst hv; unfold aG; omega) (gd_g0 ⟨t, ht⟩ ⟨k, hk⟩) (by omega)
theorem gdk_g0 : ∀ t : Fin 12, ∀ k : Fin 10, gdc (360 + (238 + 10 * t.1 + k.1)) 0 = (112, 10 * t.1 + k.1) := by decide +kernel
theorem erk_g0 {a v t k : Nat} {Y I : zT} (hv : v = a + 360) (ht : t < 12) (hk : k < 10) : enc a Y I (aG v t k) 0 = Y 112 (10 * t + k) := enc_r (x := 360 + (238 + 10 * t + k)) (by subst hv; unfold aG; omega) (gdk_g0 ⟨t, ht⟩ ⟨k, hk⟩) (by omega)
theorem ewk_g0 {a v t k : Nat} {Y I : zT} (hv : v = a + 360) (ht : t < 12) (hk : k < 10) {w : Int32} : zset (enc a Y I) (aG v t k) 0 w = enc a (zset Y 112 (10 * t + k) w) I := enc_w (x := 360 + (238 + 10 * t + k)) (by subst hv; unfold aG; omega) (gdk_g0 ⟨t, ht⟩ ⟨k, hk⟩) (by omega)
theorem gd_g1 : ∀ t : Fin 12, ∀ k : Fin 10, gdc (2 + (238 + 10 * t.1 + k.1)) 1 = (13, 10 * t.1 + k.1) := by decide +kernel
theorem er_g1 {a v t k : Nat} {Y I : zT} (hv : v = a + 2) (ht : t < 12) (hk : k < 10) : enc a Y I (aG v t k) 1 = Y 13 (10 * t + k) := enc_r (x := 2 + (238 + 10 * t + k)) (by subst hv; unfold aG; omega) (gd_g1 ⟨t, ht⟩ ⟨k, hk⟩) (by omega)
theorem ew_g1 {a v t k : Nat} {Y I : zT} (hv : v = a + 2) (ht : t < 12) (hk : k < 10) {w : Int32} : zset (enc a Y I) (aG v t k) 1 w = enc a (zset Y 13 (10 * t + k) w) I := enc_w (x := 2 + (238 + 10 * t + k)) (by subst hv; unfold aG; omega) (gd_g1 ⟨t, ht⟩ ⟨k, hk⟩) (by omega)
theorem gdk_g1 : ∀ t : Fin 12, ∀ k : Fin 10, gdc (360 + (238 + 10 * t.1 + k.1)) 1 = (113, 10 * t.1 + k.1) := by decide +kernel
theorem erk_g1 {a v t k : Nat} {Y I : zT} (hv : v = a + 360) (ht : t < 12) (hk : k < 10) : enc a Y I (aG v t k) 1 = Y 113 (10 * t + k) := enc_r (x := 360 + (238 + 10 * t + k)) (by subst hv; unfold aG; omega) (gdk_g1 ⟨t, ht⟩ ⟨k, hk⟩) (by omega)
theorem ewk_g1 {a v t k : Nat} {Y I : zT} (hv : v = a + 360) (ht : t < 12) (hk : k < 10) {w : Int32} : zset (enc a Y I) (aG v t k) 1 w = enc a (zset Y 113 (10 * t + k) w) I := enc_w (x := 360 + (238 + 10 * t + k)) (by subst hv; unfold aG; omega) (gdk_g1 ⟨t, ht⟩ ⟨k, hk⟩) (by omega)
theorem gd_g2 : ∀ t : Fin 12, ∀ k : Fin 10, gdc (2 + (238 + 10 * t.1 + k.1)) 2 = (14, 10 * t.1 + k.1) := by decide +kernel
theorem er_g2 {a v t k : Nat} {Y I : zT} (hv : v = a + 2) (ht : t < 12) (hk : k < 10) : enc a Y I (aG v t k) 2 = Y 14 (10 * t + k) := enc_r (x := 2 + (238 + 10 * t + k)) (by subst hv; unfold aG; omega) (gd_g2 ⟨t, ht⟩ ⟨k, hk⟩) (by omega)
theorem ew_g2 {a v t k : Nat} {Y I : zT} (hv : v = a + 2) (ht : t < 12) (hk : k < 10) {w : Int32} : zset (enc a Y I) (aG v t k) 2 w = enc a (zset Y 14 (10 * t + k) w) I := enc_w (x := 2 + (238 + 10 * t + k)) (by subst hv; unfold aG; omega) (gd_g2 ⟨t, ht⟩ ⟨k, hk⟩) (by omega)
theorem gdk_g2 : ∀ t : Fin 12, ∀ k : Fin 10, gdc (360 + (238 + 10 * t.1 + k.1)) 2 = (114, 10 * t.1 + k.1) := by decide +kernel
theorem erk_g2 {a v t k : Nat} {Y I : zT} (hv : v = a + 360) (ht : t < 12) (hk : k < 10) : enc a Y I (aG v t k) 2 = Y 114 (10 * t + k) := enc_r (x := 360 + (238 + 10 * t + k)) (by subst hv; unfold aG; omega) (gdk_g2 ⟨t, ht⟩ ⟨k, hk⟩) (by omega)
theorem ewk_g2 {a v t k : Nat} {Y I : zT} (hv : v = a + 360) (ht : t < 12) (hk : k < 10) {w : Int32} : zset (enc a Y I) (aG v t k) 2 w = enc a (zset Y 114 (10 * t + k) w) I := enc_w (x := 360 + (238 + 10 * t + k)) (by subst hv; unfold aG; omega) (gdk_g2 ⟨t, ht⟩ ⟨k, hk⟩) (by omega)
theorem gd_g3 : ∀ t : Fin 12, ∀ k : Fin 10, gdc (2 + (238 + 10 * t.1 + k.1)) 3 = (15, 10 * t.1 + k.1) := by decide +kernel
theorem er_g3 {a v t k : Nat} {Y I : zT} (hv : v = a + 2) (ht : t < 12) (hk : k < 10) : enc a Y I (aG v t k) 3 = Y 15 (10 * t + k) := enc_r (x := 2 + (238 + 10 * t + k)) (by subst hv; unfold aG; omega) (gd_g3 ⟨t, ht⟩ ⟨k, hk⟩) (by omega)
theorem ew_g3 {a v t k : Nat} {Y I : zT} (hv : v = a + 2) (ht : t < 12) (hk : k < 10) {w : Int32} : zset (enc a Y I) (aG v t k) 3 w = enc a (zset Y 15 (10 * t + k) w) I := enc_w (x := 2 + (238 + 10 * t + k)) (by subst hv; unfold aG; omega) (gd_g3 ⟨t, ht⟩ ⟨k, hk⟩) (by omega)
theorem gdk_g3 : ∀ t : Fin 12, ∀ k : Fin 10, gdc (360 + (238 + 10 * t.1 + k.1)) 3 = (115, 10 * t.1 + k.1) := by decide +kernel
theorem erk_g3 {a v t k : Nat} {Y I : zT} (hv : v = a + 360) (ht : t < 12) (hk : k < 10) : enc a Y I (aG v t k) 3 = Y 115 (10 * t + k) := enc_r (x := 360 + (238 + 10 * t + k)) (by subst hv; unfold aG; omega) (gdk_g3 ⟨t, ht⟩ ⟨k, hk⟩) (by omega)
theorem ewk_g3 {a v t k : Nat} {Y I : zT} (hv : v = a + 360) (ht : t < 12) (hk : k < 10) {w : Int32} : zset (enc a Y I) (aG v t k) 3 w = enc a (zset Y 115 (10 * t + k) w) I := enc_w (x := 360 + (238 + 10 * t + k)) (by subst hv; unfold aG; omega) (gdk_g3 ⟨t, ht⟩ ⟨k, hk⟩) (by omega)
theorem gd_no : ∀ k : Fin 20, gdc (2 + (141)) k.1 = (19, k.1) := by decide +kernel
theorem er_no {a v k : Nat} {Y I : zT} (hv : v = a + 2) (hk : k < 20) : enc a Y I (q5 v) k = Y 19 (k) := enc_r (x := 2 + (141)) (by subst hv; unfold q5; omega) (gd_no ⟨k, hk⟩) (by omega)
theorem ew_no {a v k : Nat} {Y I : zT} (hv : v = a + 2) (hk : k < 20) {w : Int32} : zset (enc a Y I) (q5 v) k w = enc a (zset Y 19 (k) w) I := enc_w (x := 2 + (141)) (by subst hv; unfold q5; omega) (gd_no ⟨k, hk⟩) (by omega)
theorem gdk_no : ∀ k : Fin 20, gdc (360 + (141)) k.1 = (119, k.1) := by decide +kernel
theorem erk_no {a v k : Nat} {Y I : zT} (hv : v = a + 360) (hk : k < 20) : enc a Y I (q5 v) k = Y 119 (k) := enc_r (x := 360 + (141)) (by subst hv; unfold q5; omega) (gdk_no ⟨k, hk⟩) (by omega)
theorem ewk_no {a v k : Nat} {Y I : zT} (hv : v = a + 360) (hk : k < 20) {w : Int32} : zset (enc a Y I) (q5 v) k w = enc a (zset Y 119 (k) w) I := enc_w (x := 360 + (141)) (by subst hv; unfold q5; omega) (gdk_no ⟨k, hk⟩) (by omega)
theorem gd_hd : ∀ k : Fin 12, gdc (2 + (142)) k.1 = (20, k.1) := by decide +kernel
theorem er_hd {a v k : Nat} {Y I : zT} (hv : v = a + 2) (hk : k < 12) : enc a Y I (q6 v) k = Y 20 (k) := enc_r (x := 2 + (142)) (by subst hv; unfold q6; omega) (gd_hd ⟨k, hk⟩) (by omega)
theorem ew_hd {a v k : Nat} {Y I : zT} (hv : v = a + 2) (hk : k < 12) {w : Int32} : zset (enc a Y I) (q6 v) k w = enc a (zset Y 20 (k) w) I := enc_w (x := 2 + (142)) (by subst hv; unfold q6; omega) (gd_hd ⟨k, hk⟩) (by omega)
theorem gdk_hd : ∀ k : Fin 12, gdc (360 + (142)) k.1 = (120, k.1) := by decide +kernel
theorem erk_hd {a v k : Nat} {Y I : zT} (hv : v = a + 360) (hk : k < 12) : enc a Y I (q6 v) k = Y 120 (k) := enc_r (x := 360 + (142)) (by subst hv; unfold q6; omega) (gdk_hd ⟨k, hk⟩) (by omega)
theorem ewk_hd {a v k : Nat} {Y I : zT} (hv : v = a + 360) (hk : k < 12) {w : Int32} : zset (enc a Y I) (q6 v) k w = enc a (zset Y 120 (k) w) I := enc_w (x := 360 + (142)) (by subst hv; unfold q6; omega) (gdk_hd ⟨k, hk⟩) (by omega)
theorem gd_bo : ∀ t : Fin 99, ∀ k : Fin 5, gdc (2 + (29 + t.1)) k.1 = ((23 + k.1), t.1) := by decide +kernel
theorem er_bo {a v t k : Nat} {Y I : zT} (hv : v = a + 2) (ht : t < 99) (hk : k < 5) : enc a Y I (aB v t) k = Y (23 + k) (t) := enc_r (x := 2 + (29 + t)) (by subst hv; unfold aB; omega) (gd_bo ⟨t, ht⟩ ⟨k, hk⟩) (by omega)
theorem ew_bo {a v t k : Nat} {Y I : zT} (hv : v = a + 2) (ht : t < 99) (hk : k < 5) {w : Int32} : zset (enc a Y I) (aB v t) k w = enc a (zset Y (23 + k) (t) w) I := enc_w (x := 2 + (29 + t)) (by subst hv; unfold aB; omega) (gd_bo ⟨t, ht⟩ ⟨k, hk⟩) (by omega)
theorem gdk_bo : ∀ t : Fin 99, ∀ k : Fin 5, gdc (360 + (29 + t.1)) k.1 = ((123 + k.1), t.1) := by decide +kernel
theorem erk_bo {a v t k : Nat} {Y I : zT} (hv : v = a + 360) (ht : t < 99) (hk : k < 5) : enc a Y I (aB v t) k = Y (123 + k) (t) := enc_r (x := 360 + (29 + t)) (by subst hv; unfold aB; omega) (gdk_bo ⟨t, ht⟩ ⟨k, hk⟩) (by omega)
theorem ewk_bo {a v t k : Nat} {Y I : zT} (hv : v = a + 360) (ht : t < 99) (hk : k < 5) {w : Int32} : zset (enc a Y I) (aB v t) k w = enc a (zset Y (123 + k) (t) w) I := enc_w (x := 360 + (29 + t)) (by subst hv; unfold aB; omega) (gdk_bo ⟨t, ht⟩ ⟨k, hk⟩) (by omega)
theorem gd_da : ∀ t : Fin 12, ∀ m : Fin 3, ∀ k : Fin 3, gdc (2 + (159 + 4 * t.1 + m.1)) k.1 = (50, 9 * t.1 + 3 * m.1 + k.1) := by decide +kernel
theorem er_da {a v t m k : Nat} {Y I : zT} (hv : v = a + 2) (ht : t < 12) (hm : m < 3) (hk : k < 3) : enc a Y I (aD3 v t m) k = Y 50 (9 * t + 3 * m + k) := enc_r (x := 2 + (159 + 4 * t + m)) (by subst hv; unfold aD3; omega) (gd_da ⟨t, ht⟩ ⟨m, hm⟩ ⟨k, hk⟩) (by omega)
theorem ew_da {a v t m k : Nat} {Y I : zT} (hv : v = a + 2) (ht : t < 12) (hm : m < 3) (hk : k < 3) {w : Int32} : zset (enc a Y I) (aD3 v t m) k w = enc a (zset Y 50 (9 * t + 3 * m + k) w) I := enc_w (x := 2 + (159 + 4 * t + m)) (by subst hv; unfold aD3; omega) (gd_da ⟨t, ht⟩ ⟨m, hm⟩ ⟨k, hk⟩) (by omega)
theorem gdk_da : ∀ t : Fin 12, ∀ m : Fin 3, ∀ k : Fin 3, gdc (360 + (159 + 4 * t.1 + m.1)) k.1 = (150, 9 * t.1 + 3 * m.1 + k.1) := by decide +kernel
theorem erk_da {a v t m k : Nat} {Y I : zT} (hv : v = a + 360) (ht : t < 12) (hm : m < 3) (hk : k < 3) : enc a Y I (aD3 v t m) k = Y 150 (9 * t + 3 * m + k) := enc_r (x := 360 + (159 + 4 * t + m)) (by subst hv; unfold aD3; omega) (gdk_da ⟨t, ht⟩ ⟨m, hm⟩ ⟨k, hk⟩) (by omega)
theorem ewk_da {a v t m k : Nat} {Y I : zT} (hv : v = a + 360) (ht : t < 12) (hm : m < 3) (hk : k < 3) {w : Int32} : zset (enc a Y I) (aD3 v t m) k w = enc a (zset Y 150 (9 * t + 3 * m + k) w) I := enc_w (x := 360 + (159 + 4 * t + m)) (by subst hv; unfold aD3; omega) (gdk_da ⟨t, ht⟩ ⟨m, hm⟩ ⟨k, hk⟩) (by omega)
theorem gd_le : ∀ t : Fin 4, ∀ m : Fin 3, ∀ k : Fin 3, gdc (2 + (208 + 4 * t.1 + m.1)) k.1 = (58, 9 * t.1 + 3 * m.1 + k.1) := by decide +kernel
theorem er_le {a v t m k : Nat} {Y I : zT} (hv : v = a + 2) (ht : t < 4) (hm : m < 3) (hk : k < 3) : enc a Y I (aL3 v t m) k = Y 58 (9 * t + 3 * m + k) := enc_r (x := 2 + (208 + 4 * t + m)) (by subst hv; unfold aL3; omega) (gd_le ⟨t, ht⟩ ⟨m, hm⟩ ⟨k, hk⟩) (by omega)
theorem ew_le {a v t m k : Nat} {Y I : zT} (hv : v = a + 2) (ht : t < 4) (hm : m < 3) (hk : k < 3) {w : Int32} : zset (enc a Y I) (aL3 v t m) k w = enc a (zset Y 58 (9 * t + 3 * m + k) w) I := enc_w (x := 2 + (208 + 4 * t + m)) (by subst hv; unfold aL3; omega) (gd_le ⟨t, ht⟩ ⟨m, hm⟩ ⟨k, hk⟩) (by omega)
theorem gdk_le : ∀ t : Fin 4, ∀ m : Fin 3, ∀ k : Fin 3, gdc (360 + (208 + 4 * t.1 + m.1)) k.1 = (158, 9 * t.1 + 3 * m.1 + k.1) := by decide +kernel
theorem erk_le {a v t m k : Nat} {Y I : zT} (hv : v = a + 360) (ht : t < 4) (hm : m < 3) (hk : k < 3) : enc a Y I (aL3 v t m) k = Y 158 (9 * t + 3 * m + k) := enc_r (x := 360 + (208 + 4 * t + m)) (by subst hv; unfold aL3; omega) (gdk_le ⟨t, ht⟩ ⟨m, hm⟩ ⟨k, hk⟩) (by omega)
theorem ewk_le {a v t m k : Nat} {Y I : zT} (hv : v = a + 360) (ht : t < 4) (hm : m < 3) (hk : k < 3) {w : Int32} : zset (enc a Y I) (aL3 v t m) k w = enc a (zset Y 158 (9 * t + 3 * m + k) w) I := enc_w (x := 360 + (208 + 4 * t + m)) (by subst hv; unfold aL3; omega) (gdk_le ⟨t, ht⟩ ⟨m, hm⟩ ⟨k, hk⟩) (by omega)
theorem gd_we : ∀ k : Fin 9, gdc (2 + (223)) k.1 = (52, k.1) := by decide +kernel
theorem er_we {a v k : Nat} {Y I : zT} (hv : v = a + 2) (hk : k < 9) : enc a Y I (q11 v) k = Y 52 (k) := enc_r (x := 2 + (223)) (by subst hv; unfold q11; omega) (gd_we ⟨k, hk⟩) (by omega)
theorem ew_we {a v k : Nat} {Y I : zT} (hv : v = a + 2) (hk : k < 9) {w : Int32} : zset (enc a Y I) (q11 v) k w = enc a (zset Y 52 (k) w) I := enc_w (x := 2 + (223)) (by subst hv; unfold q11; omega) (gd_we ⟨k, hk⟩) (by omega)
theorem gdk_we : ∀ k : Fin 9, gdc (360 + (223)) k.1 = (152, k.1) := by decide +kernel
theorem erk_we {a v k : Nat} {Y I : zT} (hv : v = a + 360) (hk : k < 9) : enc a Y I (q11 v) k = Y 152 (k) := enc_r (x := 360 + (223)) (by subst hv; unfold q11; omega) (gdk_we ⟨k, hk⟩) (by omega)
theorem ewk_we {a v k : Nat} {Y I : zT} (hv : v = a + 360) (hk : k < 9) {w : Int32} : zset (enc a Y I) (q11 v) k w = enc a (zset Y 152 (k) w) I := enc_w (x := 360 + (223)) (by subst hv; unfold q11; omega) (gdk_we ⟨k, hk⟩) (by omega)
theorem gd_ti : ∀ k : Fin 9, gdc (2 + (224)) k.1 = (53, k.1) := by decide +kernel
theorem er_ti {a v k : Nat} {Y I : zT} (hv : v = a + 2) (hk : k < 9) : enc a Y I (q12 v) k = Y 53 (k) := enc_r (x := 2 + (224)) (by subst hv; unfold q12; omega) (gd_ti ⟨k, hk⟩) (by omega)
theorem ew_ti {a v k : Nat} {Y I : zT} (hv : v = a + 2) (hk : k < 9) {w : Int32} : zset (enc a Y I) (q12 v) k w = enc a (zset Y 53 (k) w) I := enc_w (x := 2 + (224)) (by subst hv; unfold q12; omega) (gd_ti ⟨k, hk⟩) (by omega)
theorem gdk_ti : ∀ k : Fin 9, gdc (360 + (224)) k.1 = (153, k.1) := by decide +kernel
theorem erk_ti {a v k : Nat} {Y I : zT} (hv : v = a + 360) (hk : k < 9) : enc a Y I (q12 v) k = Y 153 (k) := enc_r (x := 360 + (224)) (by subst hv; unfold q12; omega) (gdk_ti ⟨k, hk⟩) (by omega)
theorem ewk_ti {a v k : Nat} {Y I : zT} (hv : v = a + 360) (hk : k < 9) {w : Int32} : zset (enc a Y I) (q12 v) k w = enc a (zset Y 153 (k) w) I := enc_w (x := 360 + (224)) (by subst hv; unfold q12; omega) (gdk_ti ⟨k, hk⟩) (by omega)
theorem gd_wa : ∀ k : Fin 9, gdc (2 + (225)) k.1 = (56, k.1) := by decide +kernel
theorem er_wa {a v k : Nat} {Y I : zT} (hv : v = a + 2) (hk : k < 9) : enc a Y I (q13 v) k = Y 56 (k) := enc_r (x := 2 + (225)) (by subst hv; unfold q13; omega) (gd_wa ⟨k, hk⟩) (by omega)
theorem ew_wa {a v k : Nat} {Y I : zT} (hv : v = a + 2) (hk : k < 9) {w : Int32} : zset (enc a Y I) (q13 v) k w = enc a (zset Y 56 (k) w) I := enc_w (x := 2 + (225)) (by subst hv; unfold q13; omega) (gd_wa ⟨k, hk⟩) (by omega)
theorem gdk_wa : ∀ k : Fin 9, gdc (360 + (225)) k.1 = (156, k.1) := by decide +kernel
theorem erk_wa {a v k : Nat} {Y I : zT} (hv : v = a + 360) (hk : k < 9) : enc a Y I (q13 v) k = Y 156 (k) := enc_r (x := 360 + (225)) (by subst hv; unfold q13; omega) (gdk_wa ⟨k, hk⟩) (by omega)
theorem ewk_wa {a v k : Nat} {Y I : zT} (hv : v = a + 360) (hk : k < 9) {w : Int32} : zset (enc a Y I) (q13 v) k w = enc a (zset Y 156 (k) w) I := enc_w (x := 360 + (225)) (by subst hv; unfold q13; omega) (gdk_wa ⟨k, hk⟩) (by omega)
theorem er_o1 {a : Nat} {Y I : zT} : enc a Y I (a) 1 = Y 34 (0) := enc_r (x := 0) (by omega) rfl (by omega)
theorem ew_o1 {a : Nat} {Y I : zT} {w : Int32} : zset (enc a Y I) (a) 1 w = enc a (zset Y 34 (0) w) I := enc_w (x := 0) (by omega) rfl (by omega)
theorem er_o2 {a : Nat} {Y I : zT} : enc a Y I (a) 2 = Y 41 (0) := enc_r (x := 0) (by omega) rfl (by omega)
theorem ew_o2 {a : Nat} {Y I : zT} {w : Int32} : zset (enc a Y I) (a) 2 w = enc a (zset Y 41 (0) w) I := enc_w (x := 0) (by omega) rfl (by omega)
theorem er_o3 {a : Nat} {Y I : zT} : enc a Y I (a) 3 = Y 42 (0) := enc_r (x := 0) (by omega) rfl (by omega)
theorem ew_o3 {a : Nat} {Y I : zT} {w : Int32} : zset (enc a Y I) (a) 3 w = enc a (zset Y 42 (0) w) I := enc_w (x := 0) (by omega) rfl (by omega)
theorem er_o6 {a : Nat} {Y I : zT} : enc a Y I (a) 6 = Y 61 (0) := enc_r (x := 0) (by omega) rfl (by omega)
theorem ew_o6 {a : Nat} {Y I : zT} {w : Int32} : zset (enc a Y I) (a) 6 w = enc a (zset Y 61 (0) w) I := enc_w (x := 0) (by omega) rfl (by omega)
theorem er_o11 {a : Nat} {Y I : zT} : enc a Y I (a) 11 = Y 211 (0) := enc_r (x := 0) (by omega) rfl (by omega)
theorem ew_o11 {a : Nat} {Y I : zT} {w : Int32} : zset (enc a Y I) (a) 11 w = enc a (zset Y 211 (0) w) I := enc_w (x := 0) (by omega) rfl (by omega)
theorem er_o18 {a : Nat} {Y I : zT} : enc a Y I (a) 18 = Y 218 (0) := enc_r (x := 0) (by omega) rfl (by omega)
theorem ew_o18 {a : Nat} {Y I : zT} {w : Int32} : zset (enc a Y I) (a) 18 w = enc a (zset Y 218 (0) w) I := enc_w (x := 0) (by omega) rfl (by omega)
theorem er_tp {a k : Nat} {Y I : zT} (hk : k < 400) : enc a Y I (o0 a) k = Y 33 (k) := enc_r (x := 1) (by unfold o0; omega) (by unfold gdc; repeat first | rw [if_pos (by omega)] | rw [if_neg (by omega)]) (by omega)
theorem ew_tp {a k : Nat} {Y I : zT} (hk : k < 400) {w : Int32} : zset (enc a Y I) (o0 a) k w = enc a (zset Y 33 (k) w) I := enc_w (x := 1) (by unfold o0; omega) (by unfold gdc; repeat first | rw [if_pos (by omega)] | rw [if_neg (by omega)]) (by omega)
theorem er_co {a k : Nat} {Y I : zT} (hk : k < 216) : enc a Y I (o7 a) k = Y 207 (k) := enc_r (x := 718) (by unfold o7; omega) (by unfold gdc; repeat first | rw [if_pos (by omega)] | rw [if_neg (by omega)]) (by omega)
theorem ew_co {a k : Nat} {Y I : zT} (hk : k < 216) {w : Int32} : zset (enc a Y I) (o7 a) k w = enc a (zset Y 207 (k) w) I := enc_w (x := 718) (by unfold o7; omega) (by unfold gdc; repeat first | rw [if_pos (by omega)] | rw [if_neg (by omega)]) (by omega)
theorem er_do {a k : Nat} {Y I : zT} (hk : k < 216) : enc a Y I (o8 a) k = Y 208 (k) := enc_r (x := 719) (by unfold o8; omega) (by unfold gdc; repeat first | rw [if_pos (by omega)] | rw [if_neg (by omega)]) (by omega)
theorem ew_do {a k : Nat} {Y I : zT} (hk : k < 216) {w : Int32} : zset (enc a Y I) (o8 a) k w = enc a (zset Y 208 (k) w) I := enc_w (x := 719) (by unfold o8; omega) (by unfold gdc; repeat first | rw [if_pos (by omega)] | rw [if_neg (by omega)]) (by omega)
theorem er_ac {a k : Nat} {Y I : zT} (hk : k < 5184) : enc a Y I (o9 a) k = Y 209 (k) := enc_r (x := 720) (by unfold o9; omega) (by unfold gdc; repeat first | rw [if_pos (by omega)] | rw [if_neg (by omega)]) (by omega)
theorem ew_ac {a k : Nat} {Y I : zT} (hk : k < 5184) {w : Int32} : zset (enc a Y I) (o9 a) k w = enc a (zset Y 209 (k) w) I := enc_w (x := 720) (by unfold o9; omega) (by unfold gdc; repeat first | rw [if_pos (by omega)] | rw [if_neg (by omega)]) (by omega)
theorem er_qu {a k : Nat} {Y I : zT} (hk : k < 5184) : enc a Y I (o10 a) k = Y 210 (k) := enc_r (x := 721) (by unfold o10; omega) (by unfold gdc; repeat first | rw [if_pos (by omega)] | rw [if_neg (by omega)]) (by omega)
theorem ew_qu {a k : Nat} {Y I : zT} (hk : k < 5184) {w : Int32} : zset (enc a Y I) (o10 a) k w = enc a (zset Y 210 (k) w) I := enc_w (x := 721) (by unfold o10; omega) (by unfold gdc; repeat first | rw [if_pos (by omega)] | rw [if_neg (by omega)]) (by omega)
theorem er_ha {a k : Nat} {Y I : zT} (hk : k < 4) : enc a Y I (o12 a) k = Y 212 (k) := enc_r (x := 722) (by unfold o12; omega) (by unfold gdc; repeat first | rw [if_pos (by omega)] | rw [if_neg (by omega)]) (by omega)
theorem ew_ha {a k : Nat} {Y I : zT} (hk : k < 4) {w : Int32} : zset (enc a Y I) (o12 a) k w = enc a (zset Y 212 (k) w) I := enc_w (x := 722) (by unfold o12; omega) (by unfold gdc; repeat first | rw [if_pos (by omega)] | rw [if_neg (by omega)]) (by omega)
theorem er_by {a k : Nat} {Y I : zT} (hk : k < 9) : enc a Y I (o14 a) k = Y 214 (k) := enc_r (x := 737) (by unfold o14; omega) (by unfold gdc; repeat first | rw [if_pos (by omega)] | rw [if_neg (by omega)]) (by omega)
theorem ew_by {a k : Nat} {Y I : zT} (hk : k < 9) {w : Int32} : zset (enc a Y I) (o14 a) k w = enc a (zset Y 214 (k) w) I := enc_w (x := 737) (by unfold o14; omega) (by unfold gdc; repeat first | rw [if_pos (by omega)] | rw [if_neg (by omega)]) (by omega)
theorem er_gi {a k : Nat} {Y I : zT} (hk : k < 9) : enc a Y I (o15 a) k = Y 215 (k) := enc_r (x := 738) (by unfold o15; omega) (by unfold gdc; repeat first | rw [if_pos (by omega)] | rw [if_neg (by omega)]) (by omega)
theorem ew_gi {a k : Nat} {Y I : zT} (hk : k < 9) {w : Int32} : zset (enc a Y I) (o15 a) k w = enc a (zset Y 215 (k) w) I := enc_w (x := 738) (by unfold o15; omega) (by unfold gdc; repeat first | rw [if_pos (by omega)] | rw [if_neg (by omega)]) (by omega)
theorem er_bg {a k : Nat} {Y I : zT} (hk : k < 9) : enc a Y I (o16 a) k = Y 216 (k) := enc_r (x := 739) (by unfold o16; omega) (by unfold gdc; repeat first | rw [if_pos (by omega)] | rw [if_neg (by omega)]) (by omega)
theorem ew_bg {a k : Nat} {Y I : zT} (hk : k < 9) {w : Int32} : zset (enc a Y I) (o16 a) k w = enc a (zset Y 216 (k) w) I := enc_w (x := 739) (by unfold o16; omega) (by unfold gdc; repeat first | rw [if_pos (by omega)] | rw [if_neg (by omega)]) (by omega)
theorem er_h3 {a k : Nat} {Y I : zT} (hk : k < 3) : enc a Y I (o17 a) k = Y 217 (k) := enc_r (x := 740) (by unfold o17; omega) (by unfold gdc; repeat first | rw [if_pos (by omega)] | rw [if_neg (by omega)]) (by omega)
theorem ew_h3 {a k : Nat} {Y I : zT} (hk : k < 3) {w : Int32} : zset (enc a Y I) (o17 a) k w = enc a (zset Y 217 (k) w) I := enc_w (x := 740) (by unfold o17; omega) (by unfold gdc; repeat first | rw [if_pos (by omega)] | rw [if_neg (by omega)]) (by omega)
theorem er_ls {a t k : Nat} {Y I : zT} (ht : t < 13) (hk : k < 27) : enc a Y I (aLe a t) k = Y 213 (27 * t + k) := enc_r (x := 724 + t) (by unfold aLe; omega) (by unfold gdc; (repeat first | rw [if_pos (by omega)] | rw [if_neg (by omega)]); rw [show 724 + t - 724 = t from by omega]) (by omega)
theorem ew_ls {a t k : Nat} {Y I : zT} (ht : t < 13) (hk : k < 27) {w : Int32} : zset (enc a Y I) (aLe a t) k w = enc a (zset Y 213 (27 * t + k) w) I := enc_w (x := 724 + t) (by unfold aLe; omega) (by unfold gdc; (repeat first | rw [if_pos (by omega)] | rw [if_neg (by omega)]); rw [show 724 + t - 724 = t from by omega]) (by omega)
def LV (S : sT) (P : pT) (v : Nat) : Prop := (S v = (2, 0)) ∧ (P v 0 = some (q0 v)) ∧ (S (q0 v) = (25, 4)) ∧ (P v 1 = some (q1 v)) ∧ (S (q1 v) = (24, 12)) ∧ (P v 2 = some (q2 v)) ∧ (S (q2 v) = (24, 12)) ∧ (P v 3 = some (q3 v)) ∧ (S (q3 v) = (24, 99)) ∧ (P v 4 = some (q4 v)) ∧ (S (q4 v) = (27, 12)) ∧ (P v 5 = some (q5 v)) ∧ (S (q5 v) = (20, 20)) ∧ (P v 6 = some (q6 v)) ∧ (S (q6 v) = (20, 12)) ∧ (P v 7 = some (q7 v)) ∧ (S (q7 v) = (28, 12)) ∧ (P v 8 = some (q8 v)) ∧ (S (q8 v) = (21, 10)) ∧ (P v 9 = some (q9 v)) ∧ (S (q9 v) = (29, 12)) ∧ (P v 10 = some (q10 v)) ∧ (S (q10 v) = (30, 4)) ∧ (P v 11 = some (q11 v)) ∧ (S (q11 v) = (20, 9)) ∧ (P v 12 = some (q12 v)) ∧ (S (q12 v) = (20, 9)) ∧ (P v 13 = some (q13 v)) ∧ (S (q13 v) = (20, 9)) ∧ (∀ t, t < 4 → P (q0 v) t = some (aT v t)) ∧ (∀ t, t < 4 → S (aT v t) = (3, 0)) ∧ (∀ t, t < 4 → P (aT v t) 1 = some (aW v t)) ∧ (∀ t, t < 4 → S (aW v t) = (20, 3)) ∧ (∀ t, t < 12 → P (q1 v) t = some (aK v t)) ∧ (∀ t, t < 12 → S (aK v t) = (20, 10)) ∧ (∀ t, t < 12 → P (q2 v) t = some (aH v t)) ∧ (∀ t, t < 12 → S (aH v t) = (20, 3)) ∧ (∀ t, t < 99 → P (q3 v) t = some (aB v t)) ∧ (∀ t, t < 99 → S (aB v t) = (20, 5)) ∧ (∀ t, t < 12 → P (q4 v) t = some (aO v t)) ∧ (∀ t, t < 12 → S (aO v t) = (26, 10)) ∧ (∀ t, t < 12 → P (q7 v) t = some (aR v t)) ∧ (∀ t, t < 12 → S (aR v t) = (21, 4)) ∧ (∀ t, t < 12 → P (q9 v) t = some (aD v t)) ∧ (∀ t, t < 12 → S (aD v t) = (24, 3)) ∧ (∀ t, t < 4 → P (q10 v) t = some (aL v t)) ∧ (∀ t, t < 4 → S (aL v t) = (28, 3)) ∧ (∀ t k, t < 12 → k < 10 → P (aO v t) k = some (aG v t k)) ∧ (∀ t k, t < 12 → k < 10 → S (aG v t k) = (4, 0)) ∧ (∀ t k, t < 12 → k < 3 → P (aD v t) k = some (aD3 v t k)) ∧ (∀ t k, t < 12 → k < 3 → S (aD3 v t k) = (20, 3)) ∧ (∀ t k, t < 4 → k < 3 → P (aL v t) k = some (aL3 v t k)) ∧ (∀ t k, t < 4 → k < 3 → S (aL3 v t k) = (21, 3))
theorem LV_kv {S : sT} {P : pT} {v : Nat} (h : LV S P v) : isk S v 2 = true := by unfold isk; rw [(h.1)]; rfl
theorem LV_p0 {S : sT} {P : pT} {v : Nat} (h : LV S P v) : P v 0 = some (q0 v) := (h.2.1)
theorem LV_k0 {S : sT} {P : pT} {v : Nat} (h : LV S P v) : isk S (q0 v) 25 = true := by unfold isk; rw [(h.2.2.1)]; rfl
theorem LV_n0 {S : sT} {P : pT} {v : Nat} (h : LV S P v) : (S (q0 v)).2 = 4 := by rw [(h.2.2.1)]
theorem LV_p1 {S : sT} {P : pT} {v : Nat} (h : LV S P v) : P v 1 = some (q1 v) := (h.2.2.2.1)
theorem LV_k1 {S : sT} {P : pT} {v : Nat} (h : LV S P v) : isk S (q1 v) 24 = true := by unfold isk; rw [(h.2.2.2.2.1)]; rfl
theorem LV_n1 {S : sT} {P : pT} {v : Nat} (h : LV S P v) : (S (q1 v)).2 = 12 := by rw [(h.2.2.2.2.1)]
theorem LV_p2 {S : sT} {P : pT} {v : Nat} (h : LV S P v) : P v 2 = some (q2 v) := (h.2.2.2.2.2.1)
theorem LV_k2 {S : sT} {P : pT} {v : Nat} (h : LV S P v) : isk S (q2 v) 24 = true := by unfold isk; rw [(h.2.2.2.2.2.2.1)]; rfl
theorem LV_n2 {S : sT} {P : pT} {v : Nat} (h : LV S P v) : (S (q2 v)).2 = 12 := by rw [(h.2.2.2.2.2.2.1)]
theorem LV_p3 {S : sT} {P : pT} {v : Nat} (h : LV S P v) : P v 3 = some (q3 v) := (h.2.2.2.2.2.2.2.1)
theorem LV_k3 {S : sT} {P : pT} {v : Nat} (h : LV S P v) : isk S (q3 v) 24 = true := by unfold isk; rw [(h.2.2.2.2.2.2.2.2.1)]; rfl
theorem LV_n3 {S : sT} {P : pT} {v : Nat} (h : LV S P v) : (S (q3 v)).2 = 99 := by rw [(h.2.2.2.2.2.2.2.2.1)]
theorem LV_p4 {S : sT} {P : pT} {v : Nat} (h : LV S P v) : P v 4 = some (q4 v) := (h.2.2.2.2.2.2.2.2.2.1)
theorem LV_k4 {S : sT} {P : pT} {v : Nat} (h : LV S P v) : isk S (q4 v) 27 = true := by unfold isk; rw [(h.2.2.2.2.2.2.2.2.2.2.1)]; rfl
theorem LV_n4 {S : sT} {P : pT} {v : Nat} (h : LV S P v) : (S (q4 v)).2 = 12 := by rw [(h.2.2.2.2.2.2.2.2.2.2.1)]
theorem LV_p5 {S : sT} {P : pT} {v : Nat} (h : LV S P v) : P v 5 = some (q5 v) := (h.2.2.2.2.2.2.2.2.2.2.2.1)
theorem LV_k5 {S : sT} {P : pT} {v : Nat} (h : LV S P v) : isk S (q5 v) 20 = true := by unfold isk; rw [(h.2.2.2.2.2.2.2.2.2.2.2.2.1)]; rfl
theorem LV_n5 {S : sT} {P : pT} {v : Nat} (h : LV S P v) : (S (q5 v)).2 = 20 := by rw [(h.2.2.2.2.2.2.2.2.2.2.2.2.1)]
theorem LV_p6 {S : sT} {P : pT} {v : Nat} (h : LV S P v) : P v 6 = some (q6 v) := (h.2.2.2.2.2.2.2.2.2.2.2.2.2.1)
theorem LV_k6 {S : sT} {P : pT} {v : Nat} (h : LV S P v) : isk S (q6 v) 20 = true := by unfold isk; rw [(h.2.2.2.2.2.2.2.2.2.2.2.2.2.2.1)]; rfl
theorem LV_n6 {S : sT} {P : pT} {v : Nat} (h : LV S P v) : (S (q6 v)).2 = 12 := by rw [(h.2.2.2.2.2.2.2.2.2.2.2.2.2.2.1)]
theorem LV_p7 {S : sT} {P : pT} {v : Nat} (h : LV S P v) : P v 7 = some (q7 v) := (h.2.2.2.2.2.2.2.2.2.2.2.2.2.2.2.1)
theorem LV_k7 {S : sT} {P : pT} {v : Nat} (h : LV S P v) : isk S (q7 v) 28 = true := by unfold isk; rw [(h.2.2.2.2.2.2.2.2.2.2.2.2.2.2.2.2.1)]; rfl
theorem LV_n7 {S : sT} {P : pT} {v : Nat} (h : LV S P v) : (S (q7 v)).2 = 12 := by rw [(h.2.2.2.2.2.2.2.2.2.2.2.2.2.2.2.2.1)]
theorem LV_p8 {S : sT} {P : pT} {v : Nat} (h : LV S P v) : P v 8 = some (q8 v) := (h.2.2.2.2.2.2.2.2.2.2.2.2.2.2.2.2.2.1)
theorem LV_k8 {S : sT} {P : pT} {v : Nat} (h : LV S P v) : isk S (q8 v) 21 = true := by unfold isk; rw [(h.2.2.2.2.2.2.2.2.2.2.2.2.2.2.2.2.2.2.1)]; rfl
theorem LV_n8 {S : sT} {P : pT} {v : Nat} (h : LV S P v) : (S (q8 v)).2 = 10 := by rw [(h.2.2.2.2.2.2.2.2.2.2.2.2.2.2.2.2.2.2.1)]
theorem LV_p9 {S : sT} {P : pT} {v : Nat} (h : LV S P v) : P v 9 = some (q9 v) := (h.2.2.2.2.2.2.2.2.2.2.2.2.2.2.2.2.2.2.2.1)
theorem LV_k9 {S : sT} {P : pT} {v : Nat} (h : LV S P v) : isk S (q9 v) 29 = true := by unfold isk; rw [(h.2.2.2.2.2.2.2.2.2.2.2.2.2.2.2.2.2.2.2.2.1)]; rfl
theorem LV_n9 {S : sT} {P : pT} {v : Nat} (h : LV S P v) : (S (q9 v)).2 = 12 := by rw [(h.2.2.2.2.2.2.2.2.2.2.2.2.2.2.2.2.2.2.2.2.1)]
theorem LV_p10 {S : sT} {P : pT} {v : Nat} (h : LV S P v) : P v 10 = some (q10 v) := (h.2.2.2.2.2.2.2.2.2.2.2.2.2.2.2.2.2.2.2.2.2.1)
theorem LV_k10 {S : sT} {P : pT} {v : Nat} (h : LV S P v) : isk S (q10 v) 30 = true := by unfold isk; rw [(h.2.2.2.2.2.2.2.2.2.2.2.2.2.2.2.2.2.2.2.2.2.2.1)]; rfl
theorem LV_n10 {S : sT} {P : pT} {v : Nat} (h : LV S P v) : (S (q10 v)).2 = 4 := by rw [(h.2.2.2.2.2.2.2.2.2.2.2.2.2.2.2.2.2.2.2.2.2.2.1)]
theorem LV_p11 {S : sT} {P : pT} {v : Nat} (h : LV S P v) : P v 11 = some (q11 v) := (h.2.2.2.2.2.2.2.2.2.2.2.2.2.2.2.2.2.2.2.2.2.2.2.1)
theorem LV_k11 {S : sT} {P : pT} {v : Nat} (h : LV S P v) : isk S (q11 v) 20 = true := by unfold isk; rw [(h.2.2.2.2.2.2.2.2.2.2.2.2.2.2.2.2.2.2.2.2.2.2.2.2.1)]; rfl
theorem LV_n11 {S : sT} {P : pT} {v : Nat} (h : LV S P v) : (S (q11 v)).2 = 9 := by rw [(h.2.2.2.2.2.2.2.2.2.2.2.2.2.2.2.2.2.2.2.2.2.2.2.2.1)]
theorem LV_p12 {S : sT} {P : pT} {v : Nat} (h : LV S P v) : P v 12 = some (q12 v) := (h.2.2.2.2.2.2.2.2.2.2.2.2.2.2.2.2.2.2.2.2.2.2.2.2.2.1)
theorem LV_k12 {S : sT} {P : pT} {v : Nat} (h : LV S P v) : isk S (q12 v) 20 = true := by unfold isk; rw [(h.2.2.2.2.2.2.2.2.2.2.2.2.2.2.2.2.2.2.2.2.2.2.2.2.2.2.1)]; rfl
theorem LV_n12 {S : sT} {P : pT} {v : Nat} (h : LV S P v) : (S (q12 v)).2 = 9 := by rw [(h.2.2.2.2.2.2.2.2.2.2.2.2.2.2.2.2.2.2.2.2.2.2.2.2.2.2.1)]
theorem LV_p13 {S : sT} {P : pT} {v : Nat} (h : LV S P v) : P v 13 = some (q13 v) := (h.2.2.2.2.2.2.2.2.2.2.2.2.2.2.2.2.2.2.2.2.2.2.2.2.2.2.2.1)
theorem LV_k13 {S : sT} {P : pT} {v : Nat} (h : LV S P v) : isk S (q13 v) 20 = true := by unfold isk; rw [(h.2.2.2.2.2.2.2.2.2.2.2.2.2.2.2.2.2.2.2.2.2.2.2.2.2.2.2.2.1)]; rfl
theorem LV_n13 {S : sT} {P : pT} {v : Nat} (h : LV S P v) : (S (q13 v)).2 = 9 := by rw [(h.2.2.2.2.2.2.2.2.2.2.2.2.2.2.2.2.2.2.2.2.2.2.2.2.2.2.2.2.1)]
theorem LV_pT {S : sT} {P : pT} {v t : Nat} (h : LV S P v) (ht : t < 4) : P (q0 v) t = some (aT v t) := (h.2.2.2.2.2.2.2.2.2.2.2.2.2.2.2.2.2.2.2.2.2.2.2.2.2.2.2.2.2.1) _ ht
theorem LV_kT {S : sT} {P : pT} {v t : Nat} (h : LV S P v) (ht : t < 4) : isk S (aT v t) 3 = true := by unfold isk; rw [(h.2.2.2.2.2.2.2.2.2.2.2.2.2.2.2.2.2.2.2.2.2.2.2.2.2.2.2.2.2.2.1) _ ht]; rfl
theorem LV_pW {S : sT} {P : pT} {v t : Nat} (h : LV S P v) (ht : t < 4) : P (aT v t) 1 = some (aW v t) := (h.2.2.2.2.2.2.2.2.2.2.2.2.2.2.2.2.2.2.2.2.2.2.2.2.2.2.2.2.2.2.2.1) _ ht
theorem LV_kW {S : sT} {P : pT} {v t : Nat} (h : LV S P v) (ht : t < 4) : isk S (aW v t) 20 = true := by unfold isk; rw [(h.2.2.2.2.2.2.2.2.2.2.2.2.2.2.2.2.2.2.2.2.2.2.2.2.2.2.2.2.2.2.2.2.1) _ ht]; rfl
theorem LV_nW {S : sT} {P : pT} {v t : Nat} (h : LV S P v) (ht : t < 4) : (S (aW v t)).2 = 3 := by rw [(h.2.2.2.2.2.2.2.2.2.2.2.2.2.2.2.2.2.2.2.2.2.2.2.2.2.2.2.2.2.2.2.2.1) _ ht]
theorem LV_pK {S : sT} {P : pT} {v t : Nat} (h : LV S P v) (ht : t < 12) : P (q1 v) t = some (aK v t) := (h.2.2.2.2.2.2.2.2.2.2.2.2.2.2.2.2.2.2.2.2.2.2.2.2.2.2.2.2.2.2.2.2.2.1) _ ht
theorem LV_kK {S : sT} {P : pT} {v t : Nat} (h : LV S P v) (ht : t < 12) : isk S (aK v t) 20 = true := by unfold isk; rw [(h.2.2.2.2.2.2.2.2.2.2.2.2.2.2.2.2.2.2.2.2.2.2.2.2.2.2.2.2.2.2.2.2.2.2.1) _ ht]; rfl
theorem LV_nK {S : sT} {P : pT} {v t : Nat} (h : LV S P v) (ht : t < 12) : (S (aK v t)).2 = 10 := by rw [(h.2.2.2.2.2.2.2.2.2.2.2.2.2.2.2.2.2.2.2.2.2.2.2.2.2.2.2.2.2.2.2.2.2.2.1) _ ht]
theorem LV_pH {S : sT} {P : pT} {v t : Nat} (h : LV S P v) (ht : t < 12) : P (q2 v) t = some (aH v t) := (h.2.2.2.2.2.2.2.2.2.2.2.2.2.2.2.2.2.2.2.2.2.2.2.2.2.2.2.2.2.2.2.2.2.2.2.1) _ ht
theorem LV_kH {S : sT} {P : pT} {v t : Nat} (h : LV S P v) (ht : t < 12) : isk S (aH v t) 20 = true := by unfold isk; rw [(h.2.2.2.2.2.2.2.2.2.2.2.2.2.2.2.2.2.2.2.2.2.2.2.2.2.2.2.2.2.2.2.2.2.2.2.2.1) _ ht]; rfl
theorem LV_nH {S : sT} {P : pT} {v t : Nat} (h : LV S P v) (ht : t < 12) : (S (aH v t)).2 = 3 := by rw [(h.2.2.2.2.2.2.2.2.2.2.2.2.2.2.2.2.2.2.2.2.2.2.2.2.2.2.2.2.2.2.2.2.2.2.2.2.1) _ ht]
theorem LV_pB {S : sT} {P : pT} {v t : Nat} (h : LV S P v) (ht : t < 99) : P (q3 v) t = some (aB v t) := (h.2.2.2.2.2.2.2.2.2.2.2.2.2.2.2.2.2.2.2.2.2.2.2.2.2.2.2.2.2.2.2.2.2.2.2.2.2.1) _ ht
theorem LV_kB {S : sT} {P : pT} {v t : Nat} (h : LV S P v) (ht : t < 99) : isk S (aB v t) 20 = true := by unfold isk; rw [(h.2.2.2.2.2.2.2.2.2.2.2.2.2.2.2.2.2.2.2.2.2.2.2.2.2.2.2.2.2.2.2.2.2.2.2.2.2.2.1) _ ht]; rfl
theorem LV_nB {S : sT} {P : pT} {v t : Nat} (h : LV S P v) (ht : t < 99) : (S (aB v t)).2 = 5 := by rw [(h.2.2.2.2.2.2.2.2.2.2.2.2.2.2.2.2.2.2.2.2.2.2.2.2.2.2.2.2.2.2.2.2.2.2.2.2.2.2.1) _ ht]
theorem LV_pO {S : sT} {P : pT} {v t : Nat} (h : LV S P v) (ht : t < 12) : P (q4 v) t = some (aO v t) := (h.2.2.2.2.2.2.2.2.2.2.2.2.2.2.2.2.2.2.2.2.2.2.2.2.2.2.2.2.2.2.2.2.2.2.2.2.2.2.2.1) _ ht
theorem LV_kO {S : sT} {P : pT} {v t : Nat} (h : LV S P v) (ht : t < 12) : isk S (aO v t) 26 = true := by unfold isk; rw [(h.2.2.2.2.2.2.2.2.2.2.2.2.2.2.2.2.2.2.2.2.2.2.2.2.2.2.2.2.2.2.2.2.2.2.2.2.2.2.2.2.1) _ ht]; rfl
theorem LV_nO {S : sT} {P : pT} {v t : Nat} (h : LV S P v) (ht : t < 12) : (S (aO v t)).2 = 10 := by rw [(h.2.2.2.2.2.2.2.2.2.2.2.2.2.2.2.2.2.2.2.2.2.2.2.2.2.2.2.2.2.2.2.2.2.2.2.2.2.2.2.2.1) _ ht]
theorem LV_pR {S : sT} {P : pT} {v t : Nat} (h : LV S P v) (ht : t < 12) : P (q7 v) t = some (aR v t) := (h.2.2.2.2.2.2.2.2.2.2.2.2.2.2.2.2.2.2.2.2.2.2.2.2.2.2.2.2.2.2.2.2.2.2.2.2.2.2.2.2.2.1) _ ht
theorem LV_kR {S : sT} {P : pT} {v t : Nat} (h : LV S P v) (ht : t < 12) : isk S (aR v t) 21 = true := by unfold isk; rw [(h.2.2.2.2.2.2.2.2.2.2.2.2.2.2.2.2.2.2.2.2.2.2.2.2.2.2.2.2.2.2.2.2.2.2.2.2.2.2.2.2.2.2.1) _ ht]; rfl
theorem LV_nR {S : sT} {P : pT} {v t : Nat} (h : LV S P v) (ht : t < 12) : (S (aR v t)).2 = 4 := by rw [(h.2.2.2.2.2.2.2.2.2.2.2.2.2.2.2.2.2.2.2.2.2.2.2.2.2.2.2.2.2.2.2.2.2.2.2.2.2.2.2.2.2.2.1) _ ht]
theorem LV_pD {S : sT} {P : pT} {v t : Nat} (h : LV S P v) (ht : t < 12) : P (q9 v) t = some (aD v t) := (h.2.2.2.2.2.2.2.2.2.2.2.2.2.2.2.2.2.2.2.2.2.2.2.2.2.2.2.2.2.2.2.2.2.2.2.2.2.2.2.2.2.2.2.1) _ ht
theorem LV_kD {S : sT} {P : pT} {v t : Nat} (h : LV S P v) (ht : t < 12) : isk S (aD v t) 24 = true := by unfold isk; rw [(h.2.2.2.2.2.2.2.2.2.2.2.2.2.2.2.2.2.2.2.2.2.2.2.2.2.2.2.2.2.2.2.2.2.2.2.2.2.2.2.2.2.2.2.2.1) _ ht]; rfl
theorem LV_nD {S : sT} {P : pT} {v t : Nat} (h : LV S P v) (ht : t < 12) : (S (aD v t)).2 = 3 := by rw [(h.2.2.2.2.2.2.2.2.2.2.2.2.2.2.2.2.2.2.2.2.2.2.2.2.2.2.2.2.2.2.2.2.2.2.2.2.2.2.2.2.2.2.2.2.1) _ ht]
theorem LV_pL {S : sT} {P : pT} {v t : Nat} (h : LV S P v) (ht : t < 4) : P (q10 v) t = some (aL v t) := (h.2.2.2.2.2.2.2.2.2.2.2.2.2.2.2.2.2.2.2.2.2.2.2.2.2.2.2.2.2.2.2.2.2.2.2.2.2.2.2.2.2.2.2.2.2.1) _ ht
theorem LV_kL {S : sT} {P : pT} {v t : Nat} (h : LV S P v) (ht : t < 4) : isk S (aL v t) 28 = true := by unfold isk; rw [(h.2.2.2.2.2.2.2.2.2.2.2.2.2.2.2.2.2.2.2.2.2.2.2.2.2.2.2.2.2.2.2.2.2.2.2.2.2.2.2.2.2.2.2.2.2.2.1) _ ht]; rfl
theorem LV_nL {S : sT} {P : pT} {v t : Nat} (h : LV S P v) (ht : t < 4) : (S (aL v t)).2 = 3 := by rw [(h.2.2.2.2.2.2.2.2.2.2.2.2.2.2.2.2.2.2.2.2.2.2.2.2.2.2.2.2.2.2.2.2.2.2.2.2.2.2.2.2.2.2.2.2.2.2.1) _ ht]
theorem LV_pG {S : sT} {P : pT} {v t k : Nat} (h : LV S P v) (ht : t < 12) (hk : k < 10) : P (aO v t) k = some (aG v t k) := (h.2.2.2.2.2.2.2.2.2.2.2.2.2.2.2.2.2.2.2.2.2.2.2.2.2.2.2.2.2.2.2.2.2.2.2.2.2.2.2.2.2.2.2.2.2.2.2.1) _ _ ht hk
theorem LV_kG {S : sT} {P : pT} {v t k : Nat} (h : LV S P v) (ht : t < 12) (hk : k < 10) : isk S (aG v t k) 4 = true := by unfold isk; rw [(h.2.2.2.2.2.2.2.2.2.2.2.2.2.2.2.2.2.2.2.2.2.2.2.2.2.2.2.2.2.2.2.2.2.2.2.2.2.2.2.2.2.2.2.2.2.2.2.2.1) _ _ ht hk]; rfl
theorem LV_pD3 {S : sT} {P : pT} {v t k : Nat} (h : LV S P v) (ht : t < 12) (hk : k < 3) : P (aD v t) k = some (aD3 v t k) := (h.2.2.2.2.2.2.2.2.2.2.2.2.2.2.2.2.2.2.2.2.2.2.2.2.2.2.2.2.2.2.2.2.2.2.2.2.2.2.2.2.2.2.2.2.2.2.2.2.2.1) _ _ ht hk
theorem LV_kD3 {S : sT} {P : pT} {v t k : Nat} (h : LV S P v) (ht : t < 12) (hk : k < 3) : isk S (aD3 v t k) 20 = true := by unfold isk; rw [(h.2.2.2.2.2.2.2.2.2.2.2.2.2.2.2.2.2.2.2.2.2.2.2.2.2.2.2.2.2.2.2.2.2.2.2.2.2.2.2.2.2.2.2.2.2.2.2.2.2.2.1) _ _ ht hk]; rfl
theorem LV_nD3 {S : sT} {P : pT} {v t k : Nat} (h : LV S P v) (ht : t < 12) (hk : k < 3) : (S (aD3 v t k)).2 = 3 := by rw [(h.2.2.2.2.2.2.2.2.2.2.2.2.2.2.2.2.2.2.2.2.2.2.2.2.2.2.2.2.2.2.2.2.2.2.2.2.2.2.2.2.2.2.2.2.2.2.2.2.2.2.1) _ _ ht hk]
theorem LV_pL3 {S : sT} {P : pT} {v t k : Nat} (h : LV S P v) (ht : t < 4) (hk : k < 3) : P (aL v t) k = some (aL3 v t k) := (h.2.2.2.2.2.2.2.2.2.2.2.2.2.2.2.2.2.2.2.2.2.2.2.2.2.2.2.2.2.2.2.2.2.2.2.2.2.2.2.2.2.2.2.2.2.2.2.2.2.2.2.1) _ _ ht hk
theorem LV_kL3 {S : sT} {P : pT} {v t k : Nat} (h : LV S P v) (ht : t < 4) (hk : k < 3) : isk S (aL3 v t k) 21 = true := by unfold isk; rw [(h.2.2.2.2.2.2.2.2.2.2.2.2.2.2.2.2.2.2.2.2.2.2.2.2.2.2.2.2.2.2.2.2.2.2.2.2.2.2.2.2.2.2.2.2.2.2.2.2.2.2.2.2) _ _ ht hk]; rfl
theorem LV_nL3 {S : sT} {P : pT} {v t k : Nat} (h : LV S P v) (ht : t < 4) (hk : k < 3) : (S (aL3 v t k)).2 = 3 := by rw [(h.2.2.2.2.2.2.2.2.2.2.2.2.2.2.2.2.2.2.2.2.2.2.2.2.2.2.2.2.2.2.2.2.2.2.2.2.2.2.2.2.2.2.2.2.2.2.2.2.2.2.2.2) _ _ ht hk]
def LA (S : sT) (P : pT) (a : Nat) : Prop := (S a = (1, 0)) ∧ (P a 0 = some (o0 a)) ∧ (S (o0 a) = (22, 400)) ∧ (P a 7 = some (o7 a)) ∧ (S (o7 a) = (20, 216)) ∧ (P a 8 = some (o8 a)) ∧ (S (o8 a) = (21, 216)) ∧ (P a 9 = some (o9 a)) ∧ (S (o9 a) = (20, 5184)) ∧ (P a 10 = some (o10 a)) ∧ (S (o10 a) = (20, 5184)) ∧ (P a 12 = some (o12 a)) ∧ (S (o12 a) = (20, 4)) ∧ (P a 13 = some (o13 a)) ∧ (S (o13 a) = (24, 13)) ∧ (P a 14 = some (o14 a)) ∧ (S (o14 a) = (20, 9)) ∧ (P a 15 = some (o15 a)) ∧ (S (o15 a) = (20, 9)) ∧ (P a 16 = some (o16 a)) ∧ (S (o16 a) = (20, 9)) ∧ (P a 17 = some (o17 a)) ∧ (S (o17 a) = (20, 3)) ∧ (∀ t, t < 13 → P (o13 a) t = some (aLe a t)) ∧ (∀ t, t < 13 → S (aLe a t) = (20, 27))
theorem LA_ka {S : sT} {P : pT} {a : Nat} (h : LA S P a) : isk S a 1 = true := by unfold isk; rw [(h.1)]; rfl
theorem LA_p0 {S : sT} {P : pT} {a : Nat} (h : LA S P a) : P a 0 = some (o0 a) := (h.2.1)
theorem LA_k0 {S : sT} {P : pT} {a : Nat} (h : LA S P a) : isk S (o0 a) 22 = true := by unfold isk; rw [(h.2.2.1)]; rfl
theorem LA_n0 {S : sT} {P : pT} {a : Nat} (h : LA S P a) : (S (o0 a)).2 = 400 := by rw [(h.2.2.1)]
theorem LA_p7 {S : sT} {P : pT} {a : Nat} (h : LA S P a) : P a 7 = some (o7 a) := (h.2.2.2.1)
theorem LA_k7 {S : sT} {P : pT} {a : Nat} (h : LA S P a) : isk S (o7 a) 20 = true := by unfold isk; rw [(h.2.2.2.2.1)]; rfl
theorem LA_n7 {S : sT} {P : pT} {a : Nat} (h : LA S P a) : (S (o7 a)).2 = 216 := by rw [(h.2.2.2.2.1)]
theorem LA_p8 {S : sT} {P : pT} {a : Nat} (h : LA S P a) : P a 8 = some (o8 a) := (h.2.2.2.2.2.1)
theorem LA_k8 {S : sT} {P : pT} {a : Nat} (h : LA S P a) : isk S (o8 a) 21 = true := by unfold isk; rw [(h.2.2.2.2.2.2.1)]; rfl
theorem LA_n8 {S : sT} {P : pT} {a : Nat} (h : LA S P a) : (S (o8 a)).2 = 216 := by rw [(h.2.2.2.2.2.2.1)]
theorem LA_p9 {S : sT} {P : pT} {a : Nat} (h : LA S P a) : P a 9 = some (o9 a) := (h.2.2.2.2.2.2.2.1)
theorem LA_k9 {S : sT} {P : pT} {a : Nat} (h : LA S P a) : isk S (o9 a) 20 = true := by unfold isk; rw [(h.2.2.2.2.2.2.2.2.1)]; rfl
theorem LA_n9 {S : sT} {P : pT} {a : Nat} (h : LA S P a) : (S (o9 a)).2 = 5184 := by rw [(h.2.2.2.2.2.2.2.2.1)]
theorem LA_p10 {S : sT} {P : pT} {a : Nat} (h : LA S P a) : P a 10 = some (o10 a) := (h.2.2.2.2.2.2.2.2.2.1)
theorem LA_k10 {S : sT} {P : pT} {a : Nat} (h : LA S P a) : isk S (o10 a) 20 = true := by unfold isk; rw [(h.2.2.2.2.2.2.2.2.2.2.1)]; rfl
theorem LA_n10 {S : sT} {P : pT} {a : Nat} (h : LA S P a) : (S (o10 a)).2 = 5184 := by rw [(h.2.2.2.2.2.2.2.2.2.2.1)]
theorem LA_p12 {S : sT} {P : pT} {a : Nat} (h : LA S P a) : P a 12 = some (o12 a) := (h.2.2.2.2.2.2.2.2.2.2.2.1)
theorem LA_k12 {S : sT} {P : pT} {a : Nat} (h : LA S P a) : isk S (o12 a) 20 = true := by unfold isk; rw [(h.2.2.2.2.2.2.2.2.2.2.2.2.1)]; rfl
theorem LA_n12 {S : sT} {P : pT} {a : Nat} (h : LA S P a) : (S (o12 a)).2 = 4 := by rw [(h.2.2.2.2.2.2.2.2.2.2.2.2.1)]
theorem LA_p13 {S : sT} {P : pT} {a : Nat} (h : LA S P a) : P a 13 = some (o13 a) := (h.2.2.2.2.2.2.2.2.2.2.2.2.2.1)
theorem LA_k13 {S : sT} {P : pT} {a : Nat} (h : LA S P a) : isk S (o13 a) 24 = true := by unfold isk; rw [(h.2.2.2.2.2.2.2.2.2.2.2.2.2.2.1)]; rfl
theorem LA_n13 {S : sT} {P : pT} {a : Nat} (h : LA S P a) : (S (o13 a)).2 = 13 := by rw [(h.2.2.2.2.2.2.2.2.2.2.2.2.2.2.1)]
theorem LA_p14 {S : sT} {P : pT} {a : Nat} (h : LA S P a) : P a 14 = some (o14 a) := (h.2.2.2.2.2.2.2.2.2.2.2.2.2.2.2.1)
theorem LA_k14 {S : sT} {P : pT} {a : Nat} (h : LA S P a) : isk S (o14 a) 20 = true := by unfold isk; rw [(h.2.2.2.2.2.2.2.2.2.2.2.2.2.2.2.2.1)]; rfl
theorem LA_n14 {S : sT} {P : pT} {a : Nat} (h : LA S P a) : (S (o14 a)).2 = 9 := by rw [(h.2.2.2.2.2.2.2.2.2.2.2.2.2.2.2.2.1)]
theorem LA_p15 {S : sT} {P : pT} {a : Nat} (h : LA S P a) : P a 15 = some (o15 a) := (h.2.2.2.2.2.2.2.2.2.2.2.2.2.2.2.2.2.1)
theorem LA_k15 {S : sT} {P : pT} {a : Nat} (h : LA S P a) : isk S (o15 a) 20 = true := by unfold isk; rw [(h.2.2.2.2.2.2.2.2.2.2.2.2.2.2.2.2.2.2.1)]; rfl
theorem LA_n15 {S : sT} {P : pT} {a : Nat} (h : LA S P a) : (S (o15 a)).2 = 9 := by rw [(h.2.2.2.2.2.2.2.2.2.2.2.2.2.2.2.2.2.2.1)]
theorem LA_p16 {S : sT} {P : pT} {a : Nat} (h : LA S P a) : P a 16 = some (o16 a) := (h.2.2.2.2.2.2.2.2.2.2.2.2.2.2.2.2.2.2.2.1)
theorem LA_k16 {S : sT} {P : pT} {a : Nat} (h : LA S P a) : isk S (o16 a) 20 = true := by unfold isk; rw [(h.2.2.2.2.2.2.2.2.2.2.2.2.2.2.2.2.2.2.2.2.1)]; rfl
theorem LA_n16 {S : sT} {P : pT} {a : Nat} (h : LA S P a) : (S (o16 a)).2 = 9 := by rw [(h.2.2.2.2.2.2.2.2.2.2.2.2.2.2.2.2.2.2.2.2.1)]
theorem LA_p17 {S : sT} {P : pT} {a : Nat} (h : LA S P a) : P a 17 = some (o17 a) := (h.2.2.2.2.2.2.2.2.2.2.2.2.2.2.2.2.2.2.2.2.2.1)
theorem LA_k17 {S : sT} {P : pT} {a : Nat} (h : LA S P a) : isk S (o17 a) 20 = true := by unfold isk; rw [(h.2.2.2.2.2.2.2.2.2.2.2.2.2.2.2.2.2.2.2.2.2.2.1)]; rfl
theorem LA_n17 {S : sT} {P : pT} {a : Nat} (h : LA S P a) : (S (o17 a)).2 = 3 := by rw [(h.2.2.2.2.2.2.2.2.2.2.2.2.2.2.2.2.2.2.2.2.2.2.1)]
theorem LA_pE {S : sT} {P : pT} {a t : Nat} (h : LA S P a) (ht : t < 13) : P (o13 a) t = some (aLe a t) := (h.2.2.2.2.2.2.2.2.2.2.2.2.2.2.2.2.2.2.2.2.2.2.2.1) _ ht
theorem LA_kE {S : sT} {P : pT} {a t : Nat} (h : LA S P a) (ht : t < 13) : isk S (aLe a t) 20 = true := by unfold isk; rw [(h.2.2.2.2.2.2.2.2.2.2.2.2.2.2.2.2.2.2.2.2.2.2.2.2) _ ht]; rfl
theorem LA_nE {S : sT} {P : pT} {a t : Nat} (h : LA S P a) (ht : t < 13) : (S (aLe a t)).2 = 27 := by rw [(h.2.2.2.2.2.2.2.2.2.2.2.2.2.2.2.2.2.2.2.2.2.2.2.2) _ ht]
/-- the whole layout -/
def LO (S : sT) (P : pT) (a v w : Nat) : Prop := v = a + 2 ∧ w = a + 360 ∧ LA S P a ∧ P a 4 = some v ∧ P a 5 = some w ∧ LV S P v ∧ LV S P w
