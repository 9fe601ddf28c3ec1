/-! OneEye.text as a function -/
set_option maxRecDepth 100000 in
def fX0_text (E : Nat → Nat) (S : sT) (P : pT) (I : zT) (n : Nat) (a0 : Nat) (a1 : Int32) : Option (Int32 × sT × pT × zT × Nat) :=
  gd (isk S a0 1) <|
  nm (zset I a0 2 (0 : Int32)) fun (I_2 : zT) =>
  nm (zset I_2 a0 3 (-1 : Int32)) fun (I_3 : zT) =>
  bd (fX0_isThree S P I_3 a0 a1) fun (r_4 : Int32) =>
  if r_4 = 0 then (
    nm (zset I_3 a0 1 (0 : Int32)) fun (I_42 : zT) =>
    some ((-1 : Int32), S, P, I_42, n))
  else (
    nm (snew S n 6 0) fun (S_7 : sT) =>
    nm (pclr P n) fun (P_8 : pT) =>
    nm (zclr I_3 n) fun (I_9 : zT) =>
    nm (n + 1) fun (n_10 : Nat) =>
    bd (fX5_init E S_7 P_8 I_9 n_10 n a0) fun (P_11 : pT) =>
    gd (isk S_7 n 6) <|
    bdc (fX5_read E S_7 P_11 I_9 n_10 n)
      (fun (r_14 : Nat) (S_15 : sT) (P_16 : pT) (I_17 : zT) (n_18 : Nat) =>
    gd (isk S_15 a0 1) <|
    bd (P_16 a0 4) fun (b_28 : Nat) =>
    gd (isk S_15 b_28 2) <|
    bd (P_16 b_28 0) fun (b_30 : Nat) =>
    gd (isk S_15 b_30 25) <|
    gd (inb a1 (S_15 b_30).2) <|
    bd (P_16 b_30 (ix a1)) fun (b_33 : Nat) =>
    gd (isk S_15 b_33 3) <|
    bdp (fX2_plans S_15 P_16 I_17 b_33 r_14) fun (P_35 : pT) (I_36 : zT) =>
    gd (isk S_15 r_14 5) <|
    bd (fJ2_size S_15 P_35 I_36 r_14) fun (r_39 : Int32) =>
    nm (zset I_36 a0 1 (0 : Int32)) fun (I_41 : zT) =>
    some (r_39, S_15, P_35, I_41, n_18))
    (fun (S_15 : sT) (P_16 : pT) (I_17 : zT) (n_18 : Nat) =>
      nm (n_18 - 1) fun (q_21 : Nat) =>
      gd (isk S_15 q_21 7) <|
      gd (isk S_15 a0 1) <|
      nm (zset I_17 a0 2 (I_17 q_21 0)) fun (I_24 : zT) =>
      nm (zset I_24 a0 3 (I_24 q_21 1)) fun (I_25 : zT) =>
      nm (zset I_25 a0 1 (0 : Int32)) fun (I_26 : zT) =>
      some ((-1 : Int32), S_15, P_16, I_26, n_18)))
