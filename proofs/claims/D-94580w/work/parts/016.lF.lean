/-! ArrayList.add and what it calls, as functions (printed by gen/lgen.py) -/
def fJ9_newLength (a0 : Int32) (a1 : Int32) (a2 : Int32) : Option (Int32) :=
  none
set_option maxRecDepth 100000 in
def fJ11_copyOf_2 (E : Nat → Nat) (S : sT) (P : pT) (I : zT) (n : Nat) (a0 : Nat) (a1 : Int32) (a2 : Nat) : Option (Nat × sT × pT × zT × Nat) :=
  nj (fun (S24 : sT) (P24 : pT) (I24 : zT) (n24 : Nat) (t0_24 : Nat) =>
    gd (isar S24 a0) <|
    gd (isk S24 a0 23) <|
    gd (isk S24 t0_24 23) <|
    gd (!decide (a0 = t0_24)) <|
    gd (decide (¬ (jmin (Int32.ofNat (S24 a0).2) a1) < 0)) <|
    gd (decide (ix (jmin (Int32.ofNat (S24 a0).2) a1) ≤ (S24 a0).2)) <|
    gd (decide (ix (jmin (Int32.ofNat (S24 a0).2) a1) ≤ (S24 t0_24).2)) <|
    gd (steps S24 P24 a0 (ix (jmin (Int32.ofNat (S24 a0).2) a1))) <|
    nm (pcp P24 a0 t0_24 (ix (jmin (Int32.ofNat (S24 a0).2) a1))) fun (P_9 : pT) =>
    some (t0_24, S24, P_9, I24, n24)) fun j24 =>
  if a2 = (E 21) then (
    gd (cap64 a1) <|
    nm (snew S n 23 (ix a1)) fun (S_12 : sT) =>
    nm (pclr P n) fun (P_13 : pT) =>
    nm (zclr I n) fun (I_14 : zT) =>
    nm (n + 1) fun (n_15 : Nat) =>
    j24 S_12 P_13 I_14 n_15 n)
  else (
    none)
set_option maxRecDepth 100000 in
def fJ11_copyOf (E : Nat → Nat) (S : sT) (P : pT) (I : zT) (n : Nat) (a0 : Nat) (a1 : Int32) : Option (Nat × sT × pT × zT × Nat) :=
  gd (isk S a0 23) <|
  bd5 (fJ11_copyOf_2 E S P I n a0 a1 (E 21)) fun (r_2 : Nat) (S_3 : sT) (P_4 : pT) (I_5 : zT) (n_6 : Nat) =>
  some (r_2, S_3, P_4, I_5, n_6)
set_option maxRecDepth 100000 in
def fJ2_grow_2 (E : Nat → Nat) (S : sT) (P : pT) (I : zT) (n : Nat) (a0 : Nat) (a1 : Int32) : Option (Nat × sT × pT × zT × Nat) :=
  gd (isk S a0 5) <|
  bd (P a0 1) fun (b_2 : Nat) =>
  gd (isar S b_2) <|
  nm (Int32.ofNat (S b_2).2) fun (x2_4 : Int32) =>
  nj (
    bd (fJ9_newLength x2_4 (a1 - x2_4) (jsr x2_4 (1 : Int32))) fun (r_5 : Int32) =>
    bd5 (fJ11_copyOf E S P I n b_2 r_5) fun (r_7 : Nat) (S_8 : sT) (P_9 : pT) (I_10 : zT) (n_11 : Nat) =>
    gd (isk S_8 a0 5) <|
    nm (pset P_9 a0 1 (some r_7)) fun (P_14 : pT) =>
    some (r_7, S_8, P_14, I_10, n_11)) fun j20 =>
  if 0 < x2_4 then (
    j20)
  else (
    if b_2 = (E 0) then (
      gd (cap64 (jmax (10 : Int32) a1)) <|
      nm (snew S n 23 (ix (jmax (10 : Int32) a1))) fun (S_18 : sT) =>
      nm (pclr P n) fun (P_19 : pT) =>
      nm (zclr I n) fun (I_20 : zT) =>
      nm (n + 1) fun (n_21 : Nat) =>
      gd (isk S_18 a0 5) <|
      nm (pset P_19 a0 1 (some n)) fun (P_23 : pT) =>
      some (n, S_18, P_23, I_20, n_21))
    else (
      j20))
set_option maxRecDepth 100000 in
def fJ2_grow (E : Nat → Nat) (S : sT) (P : pT) (I : zT) (n : Nat) (a0 : Nat) : Option (Nat × sT × pT × zT × Nat) :=
  gd (isk S a0 5) <|
  bd5 (fJ2_grow_2 E S P I n a0 ((I a0 2) + (1 : Int32))) fun (r_2 : Nat) (S_3 : sT) (P_4 : pT) (I_5 : zT) (n_6 : Nat) =>
  some (r_2, S_3, P_4, I_5, n_6)
set_option maxRecDepth 100000 in
def fJ2_add_2 (E : Nat → Nat) (S : sT) (P : pT) (I : zT) (n : Nat) (a0 : Nat) (a1 : Nat) (a2 : Nat) (a3 : Int32) : Option (sT × pT × zT × Nat) :=
  gd (isar S a2) <|
  nj (fun (S11 : sT) (P11 : pT) (I11 : zT) (n11 : Nat) (x2_11 : Nat) =>
    gd (isk S11 x2_11 23) <|
    gd (isst S11 a1) <|
    gd (inb a3 (S11 x2_11).2) <|
    nm (pset P11 x2_11 (ix a3) (some a1)) fun (P_5 : pT) =>
    gd (isk S11 a0 5) <|
    nm (zset I11 a0 2 (a3 + (1 : Int32))) fun (I_7 : zT) =>
    some (S11, P_5, I_7, n11)) fun j11 =>
  if a3 = (Int32.ofNat (S a2).2) then (
    gd (isk S a0 5) <|
    bd5 (fJ2_grow E S P I n a0) fun (r_10 : Nat) (S_11 : sT) (P_12 : pT) (I_13 : zT) (n_14 : Nat) =>
    j11 S_11 P_12 I_13 n_14 r_10)
  else (
    j11 S P I n a2)
set_option maxRecDepth 100000 in
def fJ2_add (E : Nat → Nat) (S : sT) (P : pT) (I : zT) (n : Nat) (a0 : Nat) (a1 : Nat) : Option (Int32 × sT × pT × zT × Nat) :=
  gd (isk S a0 5) <|
  nm (zset I a0 0 ((I a0 0) + (1 : Int32))) fun (I_2 : zT) =>
  bd (P a0 1) fun (b_3 : Nat) =>
  bd4 (fJ2_add_2 E S P I_2 n a0 a1 b_3 (I_2 a0 2)) fun (S_4 : sT) (P_5 : pT) (I_6 : zT) (n_7 : Nat) =>
  some ((1 : Int32), S_4, P_5, I_6, n_7)
