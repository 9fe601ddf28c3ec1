/-! the Reader's methods that may throw, as functions (printed by gen/tgen.py) -/
set_option maxRecDepth 100000 in
def fX5_must (E : Nat → Nat) (S : sT) (P : pT) (I : zT) (n : Nat) (a0 : Nat) (a1 : Int32) : Option (Option Unit × sT × pT × zT × Nat) :=
  gd (isk S a0 6) <|
  if (I a0 2) = a1 then (
    bd (fX5_next S P I a0) fun (I_3 : zT) =>
    some (some (), S, P, I_3, n))
  else (
    nm (snew S n 7 0) fun (S_5 : sT) =>
    nm (pclr P n) fun (P_6 : pT) =>
    nm (zclr I n) fun (I_7 : zT) =>
    nm (n + 1) fun (n_8 : Nat) =>
    gd (isk S_5 a0 6) <|
    gd (isk S_5 n 7) <|
    nm (fX6_init I_7 n (1 : Int32) (I_7 a0 1)) fun (I_11 : zT) =>
    some (none, S_5, P_6, I_11, n_8))
set_option maxRecDepth 100000 in
def fX5_number (E : Nat → Nat) (S : sT) (P : pT) (I : zT) (n : Nat) (a0 : Nat) (a1 : Int32) (a2 : Int32) : Option (Option Int32 × sT × pT × zT × Nat) :=
  gd (isk S a0 6) <|
  if (I a0 2) = (2 : Int32) then (
    bd (fX0_isIn (I a0 3) a1 a2) fun (r_3 : Int32) =>
    if r_3 = 0 then (
      nm (snew S n 7 0) fun (S_9 : sT) =>
      nm (pclr P n) fun (P_10 : pT) =>
      nm (zclr I n) fun (I_11 : zT) =>
      nm (n + 1) fun (n_12 : Nat) =>
      gd (isk S_9 a0 6) <|
      gd (isk S_9 n 7) <|
      nm (fX6_init I_11 n (2 : Int32) (I_11 a0 1)) fun (I_15 : zT) =>
      some (none, S_9, P_10, I_15, n_12))
    else (
      nm (I a0 3) fun (x3_6 : Int32) =>
      bd (fX5_next S P I a0) fun (I_7 : zT) =>
      some (some x3_6, S, P, I_7, n)))
  else (
    nm (snew S n 7 0) fun (S_16 : sT) =>
    nm (pclr P n) fun (P_17 : pT) =>
    nm (zclr I n) fun (I_18 : zT) =>
    nm (n + 1) fun (n_19 : Nat) =>
    gd (isk S_16 a0 6) <|
    gd (isk S_16 n 7) <|
    nm (fX6_init I_18 n (1 : Int32) (I_18 a0 1)) fun (I_22 : zT) =>
    some (none, S_16, P_17, I_22, n_19))
set_option maxRecDepth 100000 in
def fX5_thing (E : Nat → Nat) (S : sT) (P : pT) (I : zT) (n : Nat) (a0 : Nat) : Option (Option Int32 × sT × pT × zT × Nat) :=
  gd (isk S a0 6) <|
  bd (fX0_isIn (I a0 2) (20 : Int32) (22 : Int32)) fun (r_2 : Int32) =>
  if r_2 = 0 then (
    nm (snew S n 7 0) fun (S_8 : sT) =>
    nm (pclr P n) fun (P_9 : pT) =>
    nm (zclr I n) fun (I_10 : zT) =>
    nm (n + 1) fun (n_11 : Nat) =>
    gd (isk S_8 a0 6) <|
    gd (isk S_8 n 7) <|
    nm (fX6_init I_10 n (1 : Int32) (I_10 a0 1)) fun (I_14 : zT) =>
    some (none, S_8, P_9, I_14, n_11))
  else (
    nm ((I a0 2) - (20 : Int32)) fun (x1_5 : Int32) =>
    bd (fX5_next S P I a0) fun (I_6 : zT) =>
    some (some x1_5, S, P, I_6, n))
set_option maxRecDepth 100000 in
def fX5_said (E : Nat → Nat) (S : sT) (P : pT) (I : zT) (n : Nat) (a0 : Nat) (a1 : Int32) : Option (Option Nat × sT × pT × zT × Nat) :=
  gd (isk S a0 6) <|
  bdt (fX5_number E S P I n a0 (0 : Int32) (9 : Int32)) fun (r_2 : Int32) (S_3 : sT) (P_4 : pT) (I_5 : zT) (n_6 : Nat) =>
  gd (isk S_3 a0 6) <|
  bdt (fX5_must E S_3 P_4 I_5 n_6 a0 (4 : Int32)) fun (r_10 : Unit) (S_11 : sT) (P_12 : pT) (I_13 : zT) (n_14 : Nat) =>
  nm (snew S_11 n_14 10 0) fun (S_17 : sT) =>
  nm (pclr P_12 n_14) fun (P_18 : pT) =>
  nm (zclr I_13 n_14) fun (I_19 : zT) =>
  nm (n_14 + 1) fun (n_20 : Nat) =>
  gd (isk S_17 a0 6) <|
  bd (P_18 a0 4) fun (b_22 : Nat) =>
  gd (isk S_17 b_22 1) <|
  bd (P_18 b_22 4) fun (b_24 : Nat) =>
  gd (isk S_17 b_24 2) <|
  bdt (fX5_number E S_17 P_18 I_19 n_20 a0 (0 : Int32) ((I_19 b_24 15) - (1 : Int32))) fun (r_26 : Int32) (S_27 : sT) (P_28 : pT) (I_29 : zT) (n_30 : Nat) =>
  bd (fX10_init E S_27 P_28 I_29 n_30 n_14 r_2 r_26 a1) fun (I_33 : zT) =>
  some (some n_14, S_27, P_28, I_33, n_30)
set_option maxRecDepth 100000 in
def fX5_step (E : Nat → Nat) (S : sT) (P : pT) (I : zT) (n : Nat) (a0 : Nat) (a1 : Int32) : Option (Option Nat × sT × pT × zT × Nat) :=
  if a1 = (0 : Int32) then (
    gd (isk S a0 6) <|
    bdt (fX5_thing E S P I n a0) fun (r_3 : Int32) (S_4 : sT) (P_5 : pT) (I_6 : zT) (n_7 : Nat) =>
    nm (snew S_4 n_7 8 0) fun (S_10 : sT) =>
    nm (pclr P_5 n_7) fun (P_11 : pT) =>
    nm (zclr I_6 n_7) fun (I_12 : zT) =>
    nm (n_7 + 1) fun (n_13 : Nat) =>
    gd (isk S_10 a0 6) <|
    bdt (fX5_number E S_10 P_11 I_12 n_13 a0 (0 : Int32) (2 : Int32)) fun (r_15 : Int32) (S_16 : sT) (P_17 : pT) (I_18 : zT) (n_19 : Nat) =>
    bd (fX8_init E S_16 P_17 I_18 n_19 n_7 r_3 r_15) fun (I_22 : zT) =>
    some (some n_7, S_16, P_17, I_22, n_19))
  else
  if a1 = (1 : Int32) then (
    nm (snew S n 9 0) fun (S_25 : sT) =>
    nm (pclr P n) fun (P_26 : pT) =>
    nm (zclr I n) fun (I_27 : zT) =>
    nm (n + 1) fun (n_28 : Nat) =>
    gd (isk S_25 a0 6) <|
    bdt (fX5_number E S_25 P_26 I_27 n_28 a0 (0 : Int32) (9 : Int32)) fun (r_30 : Int32) (S_31 : sT) (P_32 : pT) (I_33 : zT) (n_34 : Nat) =>
    bd (fX9_init E S_31 P_32 I_33 n_34 n r_30) fun (I_37 : zT) =>
    some (some n, S_31, P_32, I_37, n_34))
  else
  if a1 = (2 : Int32) then (
    nj (fun (t1_82 : Int32) =>
      gd (isk S a0 6) <|
      bdt (fX5_said E S P I n a0 t1_82) fun (r_41 : Nat) (S_42 : sT) (P_43 : pT) (I_44 : zT) (n_45 : Nat) =>
      some (some r_41, S_42, P_43, I_44, n_45)) fun j82 =>
    if a1 = (3 : Int32) then (
      j82 (1 : Int32))
    else (
      j82 (0 : Int32)))
  else
  if a1 = (3 : Int32) then (
    nj (fun (t1_82 : Int32) =>
      gd (isk S a0 6) <|
      bdt (fX5_said E S P I n a0 t1_82) fun (r_51 : Nat) (S_52 : sT) (P_53 : pT) (I_54 : zT) (n_55 : Nat) =>
      some (some r_51, S_52, P_53, I_54, n_55)) fun j82 =>
    if a1 = (3 : Int32) then (
      j82 (1 : Int32))
    else (
      j82 (0 : Int32)))
  else
  if a1 = (4 : Int32) then (
    nm (snew S n 11 0) fun (S_60 : sT) =>
    nm (pclr P n) fun (P_61 : pT) =>
    nm (zclr I n) fun (I_62 : zT) =>
    nm (n + 1) fun (n_63 : Nat) =>
    gd (isk S_60 a0 6) <|
    bdt (fX5_number E S_60 P_61 I_62 n_63 a0 (1 : Int32) (99 : Int32)) fun (r_65 : Int32) (S_66 : sT) (P_67 : pT) (I_68 : zT) (n_69 : Nat) =>
    bd (fX11_init E S_66 P_67 I_68 n_69 n r_65) fun (I_72 : zT) =>
    some (some n, S_66, P_67, I_72, n_69))
  else
  gd (isk S a0 6) <|
  bdt (fX5_thing E S P I n a0) fun (r_75 : Int32) (S_76 : sT) (P_77 : pT) (I_78 : zT) (n_79 : Nat) =>
  nm (snew S_76 n_79 12 0) fun (S_82 : sT) =>
  nm (pclr P_77 n_79) fun (P_83 : pT) =>
  nm (zclr I_78 n_79) fun (I_84 : zT) =>
  nm (n_79 + 1) fun (n_85 : Nat) =>
  gd (isk S_82 a0 6) <|
  bdt (fX5_number E S_82 P_83 I_84 n_85 a0 (0 : Int32) (8 : Int32)) fun (r_87 : Int32) (S_88 : sT) (P_89 : pT) (I_90 : zT) (n_91 : Nat) =>
  bd (fX12_init E S_88 P_89 I_90 n_91 n_79 r_75 r_87) fun (I_94 : zT) =>
  some (some n_79, S_88, P_89, I_94, n_91)
def lX5_read_12 (E : Nat → Nat) (n : Nat) (a0 : Nat) (j33 : sT → pT → zT → Nat → Option (Option Nat × sT × pT × zT × Nat)) (j55 : sT → pT → zT → Nat → Option (Option Nat × sT × pT × zT × Nat)) (j100 : sT → pT → zT → Nat → Option (Option Nat × sT × pT × zT × Nat)) (s12 : sT → pT → zT → Nat → Option (Option Nat × sT × pT × zT × Nat)) (S12 : sT) (P12 : pT) (I12 : zT) (n12 : Nat) : Option (Option Nat × sT × pT × zT × Nat) :=
  gd (isk S12 a0 6) <|
  if (I12 a0 2) = 0 then (
    j100 S12 P12 I12 n12)
  else (
    bd (fX0_isIn (I12 a0 2) (10 : Int32) (15 : Int32)) fun (r_27 : Int32) =>
    if r_27 = 0 then (
      j33 S12 P12 I12 n12)
    else (
      gd (isk S12 n 5) <|
      bd (fJ2_size S12 P12 I12 n) fun (r_31 : Int32) =>
      if r_31 = (30 : Int32) then (
        j55 S12 P12 I12 n12)
      else (
        nm ((I12 a0 2) - (10 : Int32)) fun (x2_34 : Int32) =>
        bd (fX5_next S12 P12 I12 a0) fun (I_35 : zT) =>
        bdt (fX5_step E S12 P12 I_35 n12 a0 x2_34) fun (r_37 : Nat) (S_38 : sT) (P_39 : pT) (I_40 : zT) (n_41 : Nat) =>
        gd (isk S_38 a0 6) <|
        bdt (fX5_must E S_38 P_39 I_40 n_41 a0 (3 : Int32)) fun (r_45 : Unit) (S_46 : sT) (P_47 : pT) (I_48 : zT) (n_49 : Nat) =>
        gd (isk S_46 n 5) <|
        bd5 (fJ2_add E S_46 P_47 I_48 n_49 n r_37) fun (r_53 : Int32) (S_54 : sT) (P_55 : pT) (I_56 : zT) (n_57 : Nat) =>
        s12 S_54 P_55 I_56 n_57)))
set_option maxRecDepth 100000 in
def fX5_read (E : Nat → Nat) (S : sT) (P : pT) (I : zT) (n : Nat) (a0 : Nat) : Option (Option Nat × sT × pT × zT × Nat) :=
  nm (snew S n 5 0) fun (S_1 : sT) =>
  nm (pclr P n) fun (P_2 : pT) =>
  nm (zclr I n) fun (I_3 : zT) =>
  nm (n + 1) fun (n_4 : Nat) =>
  bdp (fJ2_init E S_1 P_2 I_3 n_4 n) fun (P_5 : pT) (I_6 : zT) =>
  gd (isk S_1 a0 6) <|
  bd (fX5_next S_1 P_5 I_6 a0) fun (I_9 : zT) =>
  nj (fun (S33 : sT) (P33 : pT) (I33 : zT) (n33 : Nat) =>
    nm (snew S33 n33 7 0) fun (S_11 : sT) =>
    nm (pclr P33 n33) fun (P_12 : pT) =>
    nm (zclr I33 n33) fun (I_13 : zT) =>
    nm (n33 + 1) fun (n_14 : Nat) =>
    gd (isk S_11 a0 6) <|
    gd (isk S_11 n33 7) <|
    nm (fX6_init I_13 n33 (1 : Int32) (I_13 a0 1)) fun (I_17 : zT) =>
    some (none, S_11, P_12, I_17, n_14)) fun j33 =>
  nj (fun (S55 : sT) (P55 : pT) (I55 : zT) (n55 : Nat) =>
    nm (snew S55 n55 7 0) fun (S_18 : sT) =>
    nm (pclr P55 n55) fun (P_19 : pT) =>
    nm (zclr I55 n55) fun (I_20 : zT) =>
    nm (n55 + 1) fun (n_21 : Nat) =>
    gd (isk S_18 a0 6) <|
    gd (isk S_18 n55 7) <|
    nm (fX6_init I_20 n55 (3 : Int32) (I_20 a0 1)) fun (I_24 : zT) =>
    some (none, S_18, P_19, I_24, n_21)) fun j55 =>
  nj (fun (S100 : sT) (P100 : pT) (I100 : zT) (n100 : Nat) =>
    some (some n, S100, P100, I100, n100)) fun j100 =>
  nj (it3 (lX5_read_12 E n a0 j33 j55 j100) 33) fun k12 =>
  k12 S_1 P_5 I_9 n_4
