/-! what makes objects, as functions -/
set_option maxRecDepth 100000 in
def fJ0_init (E : Nat → Nat) (S : sT) (P : pT) (I : zT) (n : Nat) (a0 : Nat) : Option (Unit) :=
  some ()
set_option maxRecDepth 100000 in
def fJ1_init (E : Nat → Nat) (S : sT) (P : pT) (I : zT) (n : Nat) (a0 : Nat) : Option (zT) :=
  bd (fJ0_init E S P I n a0) fun (_ : Unit) =>
  gd (isk S a0 5) <|
  nm (zset I a0 0 (0 : Int32)) fun (I_3 : zT) =>
  some I_3
set_option maxRecDepth 100000 in
def fJ2_init (E : Nat → Nat) (S : sT) (P : pT) (I : zT) (n : Nat) (a0 : Nat) : Option (pT × zT) :=
  bd (fJ1_init E S P I n a0) fun (I_1 : zT) =>
  gd (isk S a0 5) <|
  nm (pset P a0 1 (some (E 0))) fun (P_4 : pT) =>
  some (P_4, I_1)
set_option maxRecDepth 100000 in
def fX3_init (E : Nat → Nat) (S : sT) (P : pT) (I : zT) (n : Nat) (a0 : Nat) : Option (Unit) :=
  some ()
set_option maxRecDepth 100000 in
def fX7_init (E : Nat → Nat) (S : sT) (P : pT) (I : zT) (n : Nat) (a0 : Nat) : Option (Unit) :=
  some ()
set_option maxRecDepth 100000 in
def fX8_init (E : Nat → Nat) (S : sT) (P : pT) (I : zT) (n : Nat) (a0 : Nat) (a1 : Int32) (a2 : Int32) : Option (zT) :=
  bd (fX7_init E S P I n a0) fun (_ : Unit) =>
  gd (isk S a0 8) <|
  nm (zset I a0 0 a1) fun (I_3 : zT) =>
  nm (zset I_3 a0 1 a2) fun (I_4 : zT) =>
  some I_4
set_option maxRecDepth 100000 in
def fX9_init (E : Nat → Nat) (S : sT) (P : pT) (I : zT) (n : Nat) (a0 : Nat) (a1 : Int32) : Option (zT) :=
  bd (fX7_init E S P I n a0) fun (_ : Unit) =>
  gd (isk S a0 9) <|
  nm (zset I a0 0 a1) fun (I_3 : zT) =>
  some I_3
set_option maxRecDepth 100000 in
def fX10_init (E : Nat → Nat) (S : sT) (P : pT) (I : zT) (n : Nat) (a0 : Nat) (a1 : Int32) (a2 : Int32) (a3 : Int32) : Option (zT) :=
  bd (fX7_init E S P I n a0) fun (_ : Unit) =>
  gd (isk S a0 10) <|
  nm (zset I a0 0 a1) fun (I_3 : zT) =>
  nm (zset I_3 a0 1 a2) fun (I_4 : zT) =>
  gd (isb a3) <|
  nm (zset I_4 a0 2 a3) fun (I_6 : zT) =>
  some I_6
set_option maxRecDepth 100000 in
def fX11_init (E : Nat → Nat) (S : sT) (P : pT) (I : zT) (n : Nat) (a0 : Nat) (a1 : Int32) : Option (zT) :=
  bd (fX7_init E S P I n a0) fun (_ : Unit) =>
  gd (isk S a0 11) <|
  nm (zset I a0 0 a1) fun (I_3 : zT) =>
  some I_3
set_option maxRecDepth 100000 in
def fX12_init (E : Nat → Nat) (S : sT) (P : pT) (I : zT) (n : Nat) (a0 : Nat) (a1 : Int32) (a2 : Int32) : Option (zT) :=
  bd (fX7_init E S P I n a0) fun (_ : Unit) =>
  gd (isk S a0 12) <|
  nm (zset I a0 0 a1) fun (I_3 : zT) =>
  nm (zset I_3 a0 1 a2) fun (I_4 : zT) =>
  some I_4
set_option maxRecDepth 100000 in
def fX2_init (E : Nat → Nat) (S : sT) (P : pT) (I : zT) (n : Nat) (a0 : Nat) (a1 : Int32) : Option (sT × pT × zT × Nat) :=
  nm (snew S n 20 3) fun (S_1 : sT) =>
  nm (pclr P n) fun (P_2 : pT) =>
  nm (zclr I n) fun (I_3 : zT) =>
  nm (n + 1) fun (n_4 : Nat) =>
  gd (isk S_1 a0 3) <|
  nm (pset P_2 a0 1 (some n)) fun (P_6 : pT) =>
  nm (snew S_1 n_4 5 0) fun (S_7 : sT) =>
  nm (pclr P_6 n_4) fun (P_8 : pT) =>
  nm (zclr I_3 n_4) fun (I_9 : zT) =>
  nm (n_4 + 1) fun (n_10 : Nat) =>
  bdp (fJ2_init E S_7 P_8 I_9 n_10 n_4) fun (P_11 : pT) (I_12 : zT) =>
  gd (isk S_7 a0 3) <|
  nm (pset P_11 a0 2 (some n_4)) fun (P_15 : pT) =>
  nm (zset I_12 a0 0 a1) fun (I_16 : zT) =>
  some (S_7, P_15, I_16, n_10)
def lX1_init_225 (E : Nat → Nat) (a0 : Nat) (x1_195 : Int32) (j252 : sT → pT → zT → Nat → Option (sT × pT × zT × Nat)) (s225 : sT → pT → zT → Nat → Int32 → Option (sT × pT × zT × Nat)) (S225 : sT) (P225 : pT) (I225 : zT) (n225 : Nat) (x2_225 : Int32) : Option (sT × pT × zT × Nat) :=
  if (10 : Int32) ≤ x2_225 then (
    j252 S225 P225 I225 n225)
  else (
    gd (isk S225 a0 2) <|
    bd (P225 a0 4) fun (b_90 : Nat) =>
    gd (isk S225 b_90 27) <|
    gd (inb x1_195 (S225 b_90).2) <|
    bd (P225 b_90 (ix x1_195)) fun (b_93 : Nat) =>
    nm (snew S225 n225 4 0) fun (S_94 : sT) =>
    nm (pclr P225 n225) fun (P_95 : pT) =>
    nm (zclr I225 n225) fun (I_96 : zT) =>
    nm (n225 + 1) fun (n_97 : Nat) =>
    bd (fX3_init E S_94 P_95 I_96 n_97 n225) fun (_ : Unit) =>
    gd (isk S_94 b_93 26) <|
    gd (isk S_94 n225 4) <|
    gd (inb x2_225 (S_94 b_93).2) <|
    nm (pset P_95 b_93 (ix x2_225) (some n225)) fun (P_102 : pT) =>
    nm (x2_225 + (1 : Int32)) fun (x2_103 : Int32) =>
    s225 S_94 P_102 I_96 n_97 x2_103)
def lX1_init_203 (a0 : Nat) (S195 : sT) (P195 : pT) (x1_195 : Int32) (j223 : zT → Option (sT × pT × zT × Nat)) (s203 : zT → Int32 → Option (sT × pT × zT × Nat)) (I203 : zT) (x2_203 : Int32) : Option (sT × pT × zT × Nat) :=
  if (4 : Int32) ≤ x2_203 then (
    j223 I203)
  else (
    gd (isk S195 a0 2) <|
    bd (P195 a0 7) fun (b_106 : Nat) =>
    gd (isk S195 b_106 28) <|
    gd (inb x1_195 (S195 b_106).2) <|
    bd (P195 b_106 (ix x1_195)) fun (b_109 : Nat) =>
    gd (isk S195 b_109 21) <|
    gd (inb x2_203 (S195 b_109).2) <|
    nm (zset I203 b_109 (ix x2_203) (1 : Int32)) fun (I_112 : zT) =>
    nm (x2_203 + (1 : Int32)) fun (x2_113 : Int32) =>
    s203 I_112 x2_113)
def lX1_init_195 (E : Nat → Nat) (a0 : Nat) (s195 : sT → pT → zT → Nat → Int32 → Option (sT × pT × zT × Nat)) (S195 : sT) (P195 : pT) (I195 : zT) (n195 : Nat) (x1_195 : Int32) : Option (sT × pT × zT × Nat) :=
  if (12 : Int32) ≤ x1_195 then (
    some (S195, P195, I195, n195))
  else (
    nj (fun (I223 : zT) =>
      nj (fun (S252 : sT) (P252 : pT) (I252 : zT) (n252 : Nat) =>
        nm (x1_195 + (1 : Int32)) fun (x1_87 : Int32) =>
        s195 S252 P252 I252 n252 x1_87) fun j252 =>
      nj (it4 (lX1_init_225 E a0 x1_195 j252) 11) fun k225 =>
      k225 S195 P195 I223 n195 (0 : Int32)) fun j223 =>
    nj (it1 (lX1_init_203 a0 S195 P195 x1_195 j223) FU) fun k203 =>
    k203 I195 (0 : Int32))
def lX1_init_174 (a0 : Nat) (S172 : sT) (P172 : pT) (j193 : zT → Option (sT × pT × zT × Nat)) (s174 : zT → Int32 → Option (sT × pT × zT × Nat)) (I174 : zT) (x1_174 : Int32) : Option (sT × pT × zT × Nat) :=
  if (9 : Int32) ≤ x1_174 then (
    j193 I174)
  else (
    gd (isk S172 a0 2) <|
    bd (P172 a0 12) fun (b_116 : Nat) =>
    gd (isk S172 b_116 20) <|
    gd (inb x1_174 (S172 b_116).2) <|
    nm (zset I174 b_116 (ix x1_174) (1 : Int32)) fun (I_119 : zT) =>
    nm (x1_174 + (1 : Int32)) fun (x1_120 : Int32) =>
    s174 I_119 x1_120)
def lX1_init_147 (E : Nat → Nat) (a0 : Nat) (j172 : sT → pT → zT → Nat → Option (sT × pT × zT × Nat)) (s147 : sT → pT → zT → Nat → Int32 → Option (sT × pT × zT × Nat)) (S147 : sT) (P147 : pT) (I147 : zT) (n147 : Nat) (x1_147 : Int32) : Option (sT × pT × zT × Nat) :=
  if (4 : Int32) ≤ x1_147 then (
    j172 S147 P147 I147 n147)
  else (
    gd (isk S147 a0 2) <|
    bd (P147 a0 0) fun (b_123 : Nat) =>
    nm (snew S147 n147 3 0) fun (S_124 : sT) =>
    nm (pclr P147 n147) fun (P_125 : pT) =>
    nm (zclr I147 n147) fun (I_126 : zT) =>
    nm (n147 + 1) fun (n_127 : Nat) =>
    bd4 (fX2_init E S_124 P_125 I_126 n_127 n147 x1_147) fun (S_128 : sT) (P_129 : pT) (I_130 : zT) (n_131 : Nat) =>
    gd (isk S_128 b_123 25) <|
    gd (isk S_128 n147 3) <|
    gd (inb x1_147 (S_128 b_123).2) <|
    nm (pset P_129 b_123 (ix x1_147) (some n147)) fun (P_136 : pT) =>
    nm (x1_147 + (1 : Int32)) fun (x1_137 : Int32) =>
    s147 S_128 P_136 I_130 n_131 x1_137)
set_option maxRecDepth 100000 in
def fX1_init (E : Nat → Nat) (S : sT) (P : pT) (I : zT) (n : Nat) (a0 : Nat) : Option (sT × pT × zT × Nat) :=
  nm (snew S n 25 4) fun (S_1 : sT) =>
  nm (pclr P n) fun (P_2 : pT) =>
  nm (zclr I n) fun (I_3 : zT) =>
  nm (n + 1) fun (n_4 : Nat) =>
  gd (isk S_1 a0 2) <|
  nm (pset P_2 a0 0 (some n)) fun (P_6 : pT) =>
  nm (smn2 S_1 n_4 24 12 20 10) fun (S_7 : sT) =>
  nm (pmn2 P_6 n_4 12) fun (P_8 : pT) =>
  nm (imn2 I_3 n_4 12) fun (I_9 : zT) =>
  nm (n_4 + (1 + 12)) fun (n_10 : Nat) =>
  gd (isk S_7 a0 2) <|
  nm (pset P_8 a0 1 (some n_4)) fun (P_12 : pT) =>
  nm (smn2 S_7 n_10 24 12 20 3) fun (S_13 : sT) =>
  nm (pmn2 P_12 n_10 12) fun (P_14 : pT) =>
  nm (imn2 I_9 n_10 12) fun (I_15 : zT) =>
  nm (n_10 + (1 + 12)) fun (n_16 : Nat) =>
  gd (isk S_13 a0 2) <|
  nm (pset P_14 a0 2 (some n_10)) fun (P_18 : pT) =>
  nm (smn2 S_13 n_16 24 99 20 5) fun (S_19 : sT) =>
  nm (pmn2 P_18 n_16 99) fun (P_20 : pT) =>
  nm (imn2 I_15 n_16 99) fun (I_21 : zT) =>
  nm (n_16 + (1 + 99)) fun (n_22 : Nat) =>
  gd (isk S_19 a0 2) <|
  nm (pset P_20 a0 3 (some n_16)) fun (P_24 : pT) =>
  nm (smn2 S_19 n_22 27 12 26 10) fun (S_25 : sT) =>
  nm (pmn2 P_24 n_22 12) fun (P_26 : pT) =>
  nm (imn2 I_21 n_22 12) fun (I_27 : zT) =>
  nm (n_22 + (1 + 12)) fun (n_28 : Nat) =>
  gd (isk S_25 a0 2) <|
  nm (pset P_26 a0 4 (some n_22)) fun (P_30 : pT) =>
  nm (snew S_25 n_28 20 20) fun (S_31 : sT) =>
  nm (pclr P_30 n_28) fun (P_32 : pT) =>
  nm (zclr I_27 n_28) fun (I_33 : zT) =>
  nm (n_28 + 1) fun (n_34 : Nat) =>
  gd (isk S_31 a0 2) <|
  nm (pset P_32 a0 5 (some n_28)) fun (P_36 : pT) =>
  nm (snew S_31 n_34 20 12) fun (S_37 : sT) =>
  nm (pclr P_36 n_34) fun (P_38 : pT) =>
  nm (zclr I_33 n_34) fun (I_39 : zT) =>
  nm (n_34 + 1) fun (n_40 : Nat) =>
  gd (isk S_37 a0 2) <|
  nm (pset P_38 a0 6 (some n_34)) fun (P_42 : pT) =>
  nm (smn2 S_37 n_40 28 12 21 4) fun (S_43 : sT) =>
  nm (pmn2 P_42 n_40 12) fun (P_44 : pT) =>
  nm (imn2 I_39 n_40 12) fun (I_45 : zT) =>
  nm (n_40 + (1 + 12)) fun (n_46 : Nat) =>
  gd (isk S_43 a0 2) <|
  nm (pset P_44 a0 7 (some n_40)) fun (P_48 : pT) =>
  nm (snew S_43 n_46 21 10) fun (S_49 : sT) =>
  nm (pclr P_48 n_46) fun (P_50 : pT) =>
  nm (zclr I_45 n_46) fun (I_51 : zT) =>
  nm (n_46 + 1) fun (n_52 : Nat) =>
  gd (isk S_49 a0 2) <|
  nm (pset P_50 a0 8 (some n_46)) fun (P_54 : pT) =>
  nm (smn3 S_49 n_52 29 12 24 3 20 3) fun (S_55 : sT) =>
  nm (pmn3 P_54 n_52 12 3) fun (P_56 : pT) =>
  nm (imn3 I_51 n_52 12 3) fun (I_57 : zT) =>
  nm (n_52 + (1 + 12 * (1 + 3))) fun (n_58 : Nat) =>
  gd (isk S_55 a0 2) <|
  nm (pset P_56 a0 9 (some n_52)) fun (P_60 : pT) =>
  nm (smn3 S_55 n_58 30 4 28 3 21 3) fun (S_61 : sT) =>
  nm (pmn3 P_60 n_58 4 3) fun (P_62 : pT) =>
  nm (imn3 I_57 n_58 4 3) fun (I_63 : zT) =>
  nm (n_58 + (1 + 4 * (1 + 3))) fun (n_64 : Nat) =>
  gd (isk S_61 a0 2) <|
  nm (pset P_62 a0 10 (some n_58)) fun (P_66 : pT) =>
  nm (snew S_61 n_64 20 9) fun (S_67 : sT) =>
  nm (pclr P_66 n_64) fun (P_68 : pT) =>
  nm (zclr I_63 n_64) fun (I_69 : zT) =>
  nm (n_64 + 1) fun (n_70 : Nat) =>
  gd (isk S_67 a0 2) <|
  nm (pset P_68 a0 11 (some n_64)) fun (P_72 : pT) =>
  nm (snew S_67 n_70 20 9) fun (S_73 : sT) =>
  nm (pclr P_72 n_70) fun (P_74 : pT) =>
  nm (zclr I_69 n_70) fun (I_75 : zT) =>
  nm (n_70 + 1) fun (n_76 : Nat) =>
  gd (isk S_73 a0 2) <|
  nm (pset P_74 a0 12 (some n_70)) fun (P_78 : pT) =>
  nm (snew S_73 n_76 20 9) fun (S_79 : sT) =>
  nm (pclr P_78 n_76) fun (P_80 : pT) =>
  nm (zclr I_75 n_76) fun (I_81 : zT) =>
  nm (n_76 + 1) fun (n_82 : Nat) =>
  gd (isk S_79 a0 2) <|
  nm (pset P_80 a0 13 (some n_76)) fun (P_84 : pT) =>
  nm (zset I_81 a0 20 (-1 : Int32)) fun (I_85 : zT) =>
  nj (fun (S172 : sT) (P172 : pT) (I172 : zT) (n172 : Nat) =>
    nj (fun (I193 : zT) =>
      nj (it4 (lX1_init_195 E a0) 13) fun k195 =>
      k195 S172 P172 I193 n172 (0 : Int32)) fun j193 =>
    nj (it1 (lX1_init_174 a0 S172 P172 j193) FU) fun k174 =>
    k174 I172 (0 : Int32)) fun j172 =>
  nj (it4 (lX1_init_147 E a0 j172) 5) fun k147 =>
  k147 S_79 P_84 I_85 n_82 (0 : Int32)
set_option maxRecDepth 100000 in
def fX0_init (E : Nat → Nat) (S : sT) (P : pT) (I : zT) (n : Nat) (a0 : Nat) : Option (sT × pT × zT × Nat) :=
  nm (snew S n 22 400) fun (S_1 : sT) =>
  nm (pclr P n) fun (P_2 : pT) =>
  nm (zclr I n) fun (I_3 : zT) =>
  nm (n + 1) fun (n_4 : Nat) =>
  gd (isk S_1 a0 1) <|
  nm (pset P_2 a0 0 (some n)) fun (P_6 : pT) =>
  nm (zset I_3 a0 3 (-1 : Int32)) fun (I_7 : zT) =>
  nm (snew S_1 n_4 2 0) fun (S_8 : sT) =>
  nm (pclr P_6 n_4) fun (P_9 : pT) =>
  nm (zclr I_7 n_4) fun (I_10 : zT) =>
  nm (n_4 + 1) fun (n_11 : Nat) =>
  bd4 (fX1_init E S_8 P_9 I_10 n_11 n_4) fun (S_12 : sT) (P_13 : pT) (I_14 : zT) (n_15 : Nat) =>
  gd (isk S_12 a0 1) <|
  nm (pset P_13 a0 4 (some n_4)) fun (P_18 : pT) =>
  nm (snew S_12 n_15 2 0) fun (S_19 : sT) =>
  nm (pclr P_18 n_15) fun (P_20 : pT) =>
  nm (zclr I_14 n_15) fun (I_21 : zT) =>
  nm (n_15 + 1) fun (n_22 : Nat) =>
  bd4 (fX1_init E S_19 P_20 I_21 n_22 n_15) fun (S_23 : sT) (P_24 : pT) (I_25 : zT) (n_26 : Nat) =>
  gd (isk S_23 a0 1) <|
  nm (pset P_24 a0 5 (some n_15)) fun (P_29 : pT) =>
  nm (snew S_23 n_26 20 216) fun (S_30 : sT) =>
  nm (pclr P_29 n_26) fun (P_31 : pT) =>
  nm (zclr I_25 n_26) fun (I_32 : zT) =>
  nm (n_26 + 1) fun (n_33 : Nat) =>
  gd (isk S_30 a0 1) <|
  nm (pset P_31 a0 7 (some n_26)) fun (P_35 : pT) =>
  nm (snew S_30 n_33 21 216) fun (S_36 : sT) =>
  nm (pclr P_35 n_33) fun (P_37 : pT) =>
  nm (zclr I_32 n_33) fun (I_38 : zT) =>
  nm (n_33 + 1) fun (n_39 : Nat) =>
  gd (isk S_36 a0 1) <|
  nm (pset P_37 a0 8 (some n_33)) fun (P_41 : pT) =>
  nm (snew S_36 n_39 20 5184) fun (S_42 : sT) =>
  nm (pclr P_41 n_39) fun (P_43 : pT) =>
  nm (zclr I_38 n_39) fun (I_44 : zT) =>
  nm (n_39 + 1) fun (n_45 : Nat) =>
  gd (isk S_42 a0 1) <|
  nm (pset P_43 a0 9 (some n_39)) fun (P_47 : pT) =>
  nm (snew S_42 n_45 20 5184) fun (S_48 : sT) =>
  nm (pclr P_47 n_45) fun (P_49 : pT) =>
  nm (zclr I_44 n_45) fun (I_50 : zT) =>
  nm (n_45 + 1) fun (n_51 : Nat) =>
  gd (isk S_48 a0 1) <|
  nm (pset P_49 a0 10 (some n_45)) fun (P_53 : pT) =>
  nm (snew S_48 n_51 20 4) fun (S_54 : sT) =>
  nm (pclr P_53 n_51) fun (P_55 : pT) =>
  nm (zclr I_50 n_51) fun (I_56 : zT) =>
  nm (n_51 + 1) fun (n_57 : Nat) =>
  gd (isk S_54 a0 1) <|
  nm (pset P_55 a0 12 (some n_51)) fun (P_59 : pT) =>
  nm (smn2 S_54 n_57 24 13 20 27) fun (S_60 : sT) =>
  nm (pmn2 P_59 n_57 13) fun (P_61 : pT) =>
  nm (imn2 I_56 n_57 13) fun (I_62 : zT) =>
  nm (n_57 + (1 + 13)) fun (n_63 : Nat) =>
  gd (isk S_60 a0 1) <|
  nm (pset P_61 a0 13 (some n_57)) fun (P_65 : pT) =>
  nm (snew S_60 n_63 20 9) fun (S_66 : sT) =>
  nm (pclr P_65 n_63) fun (P_67 : pT) =>
  nm (zclr I_62 n_63) fun (I_68 : zT) =>
  nm (n_63 + 1) fun (n_69 : Nat) =>
  gd (isk S_66 a0 1) <|
  nm (pset P_67 a0 14 (some n_63)) fun (P_71 : pT) =>
  nm (snew S_66 n_69 20 9) fun (S_72 : sT) =>
  nm (pclr P_71 n_69) fun (P_73 : pT) =>
  nm (zclr I_68 n_69) fun (I_74 : zT) =>
  nm (n_69 + 1) fun (n_75 : Nat) =>
  gd (isk S_72 a0 1) <|
  nm (pset P_73 a0 15 (some n_69)) fun (P_77 : pT) =>
  nm (snew S_72 n_75 20 9) fun (S_78 : sT) =>
  nm (pclr P_77 n_75) fun (P_79 : pT) =>
  nm (zclr I_74 n_75) fun (I_80 : zT) =>
  nm (n_75 + 1) fun (n_81 : Nat) =>
  gd (isk S_78 a0 1) <|
  nm (pset P_79 a0 16 (some n_75)) fun (P_83 : pT) =>
  nm (snew S_78 n_81 20 3) fun (S_84 : sT) =>
  nm (pclr P_83 n_81) fun (P_85 : pT) =>
  nm (zclr I_80 n_81) fun (I_86 : zT) =>
  nm (n_81 + 1) fun (n_87 : Nat) =>
  gd (isk S_84 a0 1) <|
  nm (pset P_85 a0 17 (some n_81)) fun (P_89 : pT) =>
  some (S_84, P_89, I_86, n_87)
set_option maxRecDepth 100000 in
def fX5_init (E : Nat → Nat) (S : sT) (P : pT) (I : zT) (n : Nat) (a0 : Nat) (a1 : Nat) : Option (pT) :=
  gd (isk S a0 6) <|
  nm (pset P a0 4 (some a1)) fun (P_2 : pT) =>
  some P_2
def lX2_begins_12 (S : sT) (P : pT) (a0 : Nat) (j30 : zT → Option (sT × pT × zT × Nat)) (s12 : zT → Int32 → Option (sT × pT × zT × Nat)) (I12 : zT) (x3_12 : Int32) : Option (sT × pT × zT × Nat) :=
  if (3 : Int32) ≤ x3_12 then (
    j30 I12)
  else (
    bd (P a0 1) fun (b_19 : Nat) =>
    gd (isk S b_19 20) <|
    gd (inb x3_12 (S b_19).2) <|
    nm (zset I12 b_19 (ix x3_12) (0 : Int32)) fun (I_22 : zT) =>
    nm (x3_12 + (1 : Int32)) fun (x3_23 : Int32) =>
    s12 I_22 x3_23)
set_option maxRecDepth 100000 in
def fX2_begins (E : Nat → Nat) (S : sT) (P : pT) (I : zT) (n : Nat) (a0 : Nat) (a1 : Int32) (a2 : Int32) : Option (sT × pT × zT × Nat) :=
  gd (isk S a0 3) <|
  nm (zset I a0 3 a1) fun (I_2 : zT) =>
  nm (zset I_2 a0 4 a2) fun (I_3 : zT) =>
  nj (fun (I30 : zT) =>
    nm (snew S n 5 0) fun (S_4 : sT) =>
    nm (pclr P n) fun (P_5 : pT) =>
    nm (zclr I30 n) fun (I_6 : zT) =>
    nm (n + 1) fun (n_7 : Nat) =>
    bdp (fJ2_init E S_4 P_5 I_6 n_7 n) fun (P_8 : pT) (I_9 : zT) =>
    gd (isk S_4 a0 3) <|
    nm (pset P_8 a0 2 (some n)) fun (P_12 : pT) =>
    nm (zset I_9 a0 5 (0 : Int32)) fun (I_13 : zT) =>
    nm (zset I_13 a0 6 (0 : Int32)) fun (I_14 : zT) =>
    nm (zset I_14 a0 7 (0 : Int32)) fun (I_15 : zT) =>
    nm (zset I_15 a0 8 (0 : Int32)) fun (I_16 : zT) =>
    nm (zset I_16 a0 12 (0 : Int32)) fun (I_17 : zT) =>
    some (S_4, P_12, I_17, n_7)) fun j30 =>
  nj (it1 (lX2_begins_12 S P a0 j30) FU) fun k12 =>
  k12 I_3 (0 : Int32)
set_option maxRecDepth 100000 in
def fX0_three (E : Nat → Nat) (S : sT) (P : pT) (I : zT) (n : Nat) (a0 : Nat) (a1 : Int32) (a2 : Int32) : Option (Int32 × sT × pT × zT × Nat) :=
  bd (fX0_isIn a1 (1 : Int32) (9 : Int32)) fun (r_1 : Int32) =>
  if r_1 = 0 then (
    some ((-1 : Int32), S, P, I, n))
  else (
    bd (fX0_isIn a2 (0 : Int32) (1000 : Int32)) fun (r_4 : Int32) =>
    if r_4 = 0 then (
      some ((-1 : Int32), S, P, I, n))
    else (
      gd (isk S a0 1) <|
      bd (P a0 4) fun (b_8 : Nat) =>
      gd (isk S b_8 2) <|
      if (I b_8 15) = (4 : Int32) then (
        some ((-1 : Int32), S, P, I, n))
      else (
        bd (P b_8 0) fun (b_11 : Nat) =>
        gd (isk S b_11 25) <|
        gd (inb (I b_8 15) (S b_11).2) <|
        bd (P b_11 (ix (I b_8 15))) fun (b_14 : Nat) =>
        gd (isk S b_14 3) <|
        bd4 (fX2_begins E S P I n b_14 a1 a2) fun (S_16 : sT) (P_17 : pT) (I_18 : zT) (n_19 : Nat) =>
        gd (isk S_16 a0 1) <|
        bd (P_17 a0 4) fun (b_22 : Nat) =>
        gd (isk S_16 b_22 2) <|
        nm (zset I_18 b_22 15 ((I_18 b_22 15) + (1 : Int32))) fun (I_24 : zT) =>
        some (((I_24 b_22 15) - (1 : Int32)), S_16, P_17, I_24, n_19))))
def lX0_liars_144 (n : Nat) (n_4 : Nat) (S_5 : sT) (I95 : zT) (x5_101 : Int32) (j193 : Int32 → Option (Int32 × sT × pT × zT × Nat)) (s144 : Int32 → Int32 → Option (Int32 × sT × pT × zT × Nat)) (x6_144 : Int32) (x7_144 : Int32) : Option (Int32 × sT × pT × zT × Nat) :=
  if (10 : Int32) ≤ x7_144 then (
    j193 x6_144)
  else (
    nj (fun (t0_185 : Int32) =>
      nm (x7_144 + (1 : Int32)) fun (x7_14 : Int32) =>
      s144 t0_185 x7_14) fun j185 =>
    nj (
      j185 (0 : Int32)) fun j184 =>
    if x6_144 = 0 then (
      j184)
    else (
      gd (isk S_5 n 20) <|
      gd (inb x7_144 (S_5 n).2) <|
      nj (
        j185 (1 : Int32)) fun j180 =>
      if ((I95 n (ix x7_144)) &&& (x5_101 ^^^ (-1 : Int32))) = 0 then (
        j180)
      else (
        gd (isk S_5 n_4 20) <|
        gd (inb x7_144 (S_5 n_4).2) <|
        if ((I95 n_4 (ix x7_144)) &&& (x5_101 ^^^ (-1 : Int32))) = 0 then (
          j180)
        else (
          j184))))
def lX0_liars_101 (n : Nat) (n_4 : Nat) (S_5 : sT) (P_6 : pT) (n_8 : Nat) (I95 : zT) (x3_95 : Int32) (s101 : Int32 → Int32 → Option (Int32 × sT × pT × zT × Nat)) (x4_101 : Int32) (x5_101 : Int32) : Option (Int32 × sT × pT × zT × Nat) :=
  if x3_95 < x5_101 then (
    some (x4_101, S_5, P_6, I95, n_8))
  else (
    nj (fun (x4_202 : Int32) =>
      nm (x5_101 + (1 : Int32)) fun (x5_10 : Int32) =>
      s101 x4_202 x5_10) fun j202 =>
    if (x5_101 &&& (x3_95 ^^^ (-1 : Int32))) = 0 then (
      nj (
        nj (fun (x6_193 : Int32) =>
          if x6_193 = 0 then (
            j202 x4_101)
          else (
            j202 x5_101)) fun j193 =>
        nj (it1 (lX0_liars_144 n n_4 S_5 I95 x5_101 j193) FU) fun k144 =>
        k144 (1 : Int32) (0 : Int32)) fun j138 =>
      if x4_101 = (-1 : Int32) then (
        j138)
      else (
        bd (fJ13_bitCount x5_101) fun (r_23 : Int32) =>
        bd (fJ13_bitCount x4_101) fun (r_25 : Int32) =>
        if r_23 < r_25 then (
          j138)
        else (
          j202 x4_101)))
    else (
      j202 x4_101))
def lX0_liars_15 (n : Nat) (a0 : Nat) (n_4 : Nat) (S_5 : sT) (P_6 : pT) (j95 : zT → Int32 → Option (Int32 × sT × pT × zT × Nat)) (s15 : zT → Int32 → Int32 → Option (Int32 × sT × pT × zT × Nat)) (I15 : zT) (x3_15 : Int32) (x4_15 : Int32) : Option (Int32 × sT × pT × zT × Nat) :=
  gd (isk S_5 a0 1) <|
  bd (P_6 a0 4) fun (b_29 : Nat) =>
  gd (isk S_5 b_29 2) <|
  if (I15 b_29 17) ≤ x4_15 then (
    j95 I15 x3_15)
  else (
    bd (P_6 b_29 3) fun (b_32 : Nat) =>
    gd (isk S_5 b_32 24) <|
    gd (inb x4_15 (S_5 b_32).2) <|
    bd (P_6 b_32 (ix x4_15)) fun (b_35 : Nat) =>
    gd (isk S_5 b_35 20) <|
    gd (inb (2 : Int32) (S_5 b_35).2) <|
    nj (fun (I80 : zT) =>
      gd (inb (0 : Int32) (S_5 b_35).2) <|
      nm (x3_15 ||| (js (1 : Int32) (I80 b_35 (ix (0 : Int32))))) fun (x3_39 : Int32) =>
      nm (x4_15 + (1 : Int32)) fun (x4_40 : Int32) =>
      s15 I80 x3_39 x4_40) fun j80 =>
    if (I15 b_35 (ix (2 : Int32))) = (1 : Int32) then (
      gd (inb (1 : Int32) (S_5 b_35).2) <|
      gd (isk S_5 n 20) <|
      gd (inb (I15 b_35 (ix (1 : Int32))) (S_5 n).2) <|
      gd (inb (0 : Int32) (S_5 b_35).2) <|
      nm (zset I15 n (ix (I15 b_35 (ix (1 : Int32)))) ((I15 n (ix (I15 b_35 (ix (1 : Int32))))) ||| (js (1 : Int32) (I15 b_35 (ix (0 : Int32)))))) fun (I_51 : zT) =>
      j80 I_51)
    else (
      gd (inb (1 : Int32) (S_5 b_35).2) <|
      gd (isk S_5 n_4 20) <|
      gd (inb (I15 b_35 (ix (1 : Int32))) (S_5 n_4).2) <|
      gd (inb (0 : Int32) (S_5 b_35).2) <|
      nm (zset I15 n_4 (ix (I15 b_35 (ix (1 : Int32)))) ((I15 n_4 (ix (I15 b_35 (ix (1 : Int32))))) ||| (js (1 : Int32) (I15 b_35 (ix (0 : Int32)))))) fun (I_46 : zT) =>
      j80 I_46))
set_option maxRecDepth 100000 in
def fX0_liars (E : Nat → Nat) (S : sT) (P : pT) (I : zT) (n : Nat) (a0 : Nat) : Option (Int32 × sT × pT × zT × Nat) :=
  nm (snew S n 20 10) fun (S_1 : sT) =>
  nm (pclr P n) fun (P_2 : pT) =>
  nm (zclr I n) fun (I_3 : zT) =>
  nm (n + 1) fun (n_4 : Nat) =>
  nm (snew S_1 n_4 20 10) fun (S_5 : sT) =>
  nm (pclr P_2 n_4) fun (P_6 : pT) =>
  nm (zclr I_3 n_4) fun (I_7 : zT) =>
  nm (n_4 + 1) fun (n_8 : Nat) =>
  nj (fun (I95 : zT) (x3_95 : Int32) =>
    nj (it1 (lX0_liars_101 n n_4 S_5 P_6 n_8 I95 x3_95) FU) fun k101 =>
    k101 (-1 : Int32) (0 : Int32)) fun j95 =>
  nj (it2 (lX0_liars_15 n a0 n_4 S_5 P_6 j95) FU) fun k15 =>
  k15 I_7 (0 : Int32) (0 : Int32)
set_option maxRecDepth 100000 in
def fX4_init (E : Nat → Nat) (S : sT) (P : pT) (I : zT) (n : Nat) (a0 : Nat) : Option (sT × pT × zT × Nat) :=
  nm (snew S n 20 4) fun (S_1 : sT) =>
  nm (pclr P n) fun (P_2 : pT) =>
  nm (zclr I n) fun (I_3 : zT) =>
  nm (n + 1) fun (n_4 : Nat) =>
  gd (isk S_1 a0 13) <|
  nm (pset P_2 a0 3 (some n)) fun (P_6 : pT) =>
  nm (snew S_1 n_4 20 4) fun (S_7 : sT) =>
  nm (pclr P_6 n_4) fun (P_8 : pT) =>
  nm (zclr I_3 n_4) fun (I_9 : zT) =>
  nm (n_4 + 1) fun (n_10 : Nat) =>
  gd (isk S_7 a0 13) <|
  nm (pset P_8 a0 4 (some n_4)) fun (P_12 : pT) =>
  nm (snew S_7 n_10 20 4) fun (S_13 : sT) =>
  nm (pclr P_12 n_10) fun (P_14 : pT) =>
  nm (zclr I_9 n_10) fun (I_15 : zT) =>
  nm (n_10 + 1) fun (n_16 : Nat) =>
  gd (isk S_13 a0 13) <|
  nm (pset P_14 a0 5 (some n_10)) fun (P_18 : pT) =>
  nm (snew S_13 n_16 20 4) fun (S_19 : sT) =>
  nm (pclr P_18 n_16) fun (P_20 : pT) =>
  nm (zclr I_15 n_16) fun (I_21 : zT) =>
  nm (n_16 + 1) fun (n_22 : Nat) =>
  gd (isk S_19 a0 13) <|
  nm (pset P_20 a0 6 (some n_16)) fun (P_24 : pT) =>
  nm (snew S_19 n_22 20 12) fun (S_25 : sT) =>
  nm (pclr P_24 n_22) fun (P_26 : pT) =>
  nm (zclr I_21 n_22) fun (I_27 : zT) =>
  nm (n_22 + 1) fun (n_28 : Nat) =>
  gd (isk S_25 a0 13) <|
  nm (pset P_26 a0 7 (some n_22)) fun (P_30 : pT) =>
  nm (snew S_25 n_28 20 10) fun (S_31 : sT) =>
  nm (pclr P_30 n_28) fun (P_32 : pT) =>
  nm (zclr I_27 n_28) fun (I_33 : zT) =>
  nm (n_28 + 1) fun (n_34 : Nat) =>
  gd (isk S_31 a0 13) <|
  nm (pset P_32 a0 8 (some n_28)) fun (P_36 : pT) =>
  nm (snew S_31 n_34 20 120) fun (S_37 : sT) =>
  nm (pclr P_36 n_34) fun (P_38 : pT) =>
  nm (zclr I_33 n_34) fun (I_39 : zT) =>
  nm (n_34 + 1) fun (n_40 : Nat) =>
  gd (isk S_37 a0 13) <|
  nm (pset P_38 a0 9 (some n_34)) fun (P_42 : pT) =>
  nm (snew S_37 n_40 20 48) fun (S_43 : sT) =>
  nm (pclr P_42 n_40) fun (P_44 : pT) =>
  nm (zclr I_39 n_40) fun (I_45 : zT) =>
  nm (n_40 + 1) fun (n_46 : Nat) =>
  gd (isk S_43 a0 13) <|
  nm (pset P_44 a0 10 (some n_40)) fun (P_48 : pT) =>
  nm (snew S_43 n_46 20 36) fun (S_49 : sT) =>
  nm (pclr P_48 n_46) fun (P_50 : pT) =>
  nm (zclr I_45 n_46) fun (I_51 : zT) =>
  nm (n_46 + 1) fun (n_52 : Nat) =>
  gd (isk S_49 a0 13) <|
  nm (pset P_50 a0 11 (some n_46)) fun (P_54 : pT) =>
  nm (snew S_49 n_52 20 120) fun (S_55 : sT) =>
  nm (pclr P_54 n_52) fun (P_56 : pT) =>
  nm (zclr I_51 n_52) fun (I_57 : zT) =>
  nm (n_52 + 1) fun (n_58 : Nat) =>
  gd (isk S_55 a0 13) <|
  nm (pset P_56 a0 12 (some n_52)) fun (P_60 : pT) =>
  nm (snew S_55 n_58 20 120) fun (S_61 : sT) =>
  nm (pclr P_60 n_58) fun (P_62 : pT) =>
  nm (zclr I_57 n_58) fun (I_63 : zT) =>
  nm (n_58 + 1) fun (n_64 : Nat) =>
  gd (isk S_61 a0 13) <|
  nm (pset P_62 a0 13 (some n_58)) fun (P_66 : pT) =>
  nm (snew S_61 n_64 20 120) fun (S_67 : sT) =>
  nm (pclr P_66 n_64) fun (P_68 : pT) =>
  nm (zclr I_63 n_64) fun (I_69 : zT) =>
  nm (n_64 + 1) fun (n_70 : Nat) =>
  gd (isk S_67 a0 13) <|
  nm (pset P_68 a0 14 (some n_64)) fun (P_72 : pT) =>
  nm (snew S_67 n_70 20 120) fun (S_73 : sT) =>
  nm (pclr P_72 n_70) fun (P_74 : pT) =>
  nm (zclr I_69 n_70) fun (I_75 : zT) =>
  nm (n_70 + 1) fun (n_76 : Nat) =>
  gd (isk S_73 a0 13) <|
  nm (pset P_74 a0 15 (some n_70)) fun (P_78 : pT) =>
  nm (zset I_75 a0 17 (-1 : Int32)) fun (I_79 : zT) =>
  nm (snew S_73 n_76 20 20) fun (S_80 : sT) =>
  nm (pclr P_78 n_76) fun (P_81 : pT) =>
  nm (zclr I_79 n_76) fun (I_82 : zT) =>
  nm (n_76 + 1) fun (n_83 : Nat) =>
  gd (isk S_80 a0 13) <|
  nm (pset P_81 a0 19 (some n_76)) fun (P_85 : pT) =>
  nm (snew S_80 n_83 20 12) fun (S_86 : sT) =>
  nm (pclr P_85 n_83) fun (P_87 : pT) =>
  nm (zclr I_82 n_83) fun (I_88 : zT) =>
  nm (n_83 + 1) fun (n_89 : Nat) =>
  gd (isk S_86 a0 13) <|
  nm (pset P_87 a0 20 (some n_83)) fun (P_91 : pT) =>
  nm (snew S_86 n_89 20 4) fun (S_92 : sT) =>
  nm (pclr P_91 n_89) fun (P_93 : pT) =>
  nm (zclr I_88 n_89) fun (I_94 : zT) =>
  nm (n_89 + 1) fun (n_95 : Nat) =>
  gd (isk S_92 a0 13) <|
  nm (pset P_93 a0 21 (some n_89)) fun (P_97 : pT) =>
  nm (snew S_92 n_95 20 99) fun (S_98 : sT) =>
  nm (pclr P_97 n_95) fun (P_99 : pT) =>
  nm (zclr I_94 n_95) fun (I_100 : zT) =>
  nm (n_95 + 1) fun (n_101 : Nat) =>
  gd (isk S_98 a0 13) <|
  nm (pset P_99 a0 23 (some n_95)) fun (P_103 : pT) =>
  nm (snew S_98 n_101 20 99) fun (S_104 : sT) =>
  nm (pclr P_103 n_101) fun (P_105 : pT) =>
  nm (zclr I_100 n_101) fun (I_106 : zT) =>
  nm (n_101 + 1) fun (n_107 : Nat) =>
  gd (isk S_104 a0 13) <|
  nm (pset P_105 a0 24 (some n_101)) fun (P_109 : pT) =>
  nm (snew S_104 n_107 20 99) fun (S_110 : sT) =>
  nm (pclr P_109 n_107) fun (P_111 : pT) =>
  nm (zclr I_106 n_107) fun (I_112 : zT) =>
  nm (n_107 + 1) fun (n_113 : Nat) =>
  gd (isk S_110 a0 13) <|
  nm (pset P_111 a0 25 (some n_107)) fun (P_115 : pT) =>
  nm (snew S_110 n_113 20 99) fun (S_116 : sT) =>
  nm (pclr P_115 n_113) fun (P_117 : pT) =>
  nm (zclr I_112 n_113) fun (I_118 : zT) =>
  nm (n_113 + 1) fun (n_119 : Nat) =>
  gd (isk S_116 a0 13) <|
  nm (pset P_117 a0 26 (some n_113)) fun (P_121 : pT) =>
  nm (snew S_116 n_119 20 99) fun (S_122 : sT) =>
  nm (pclr P_121 n_119) fun (P_123 : pT) =>
  nm (zclr I_118 n_119) fun (I_124 : zT) =>
  nm (n_119 + 1) fun (n_125 : Nat) =>
  gd (isk S_122 a0 13) <|
  nm (pset P_123 a0 27 (some n_119)) fun (P_127 : pT) =>
  nm (snew S_122 n_125 20 4) fun (S_128 : sT) =>
  nm (pclr P_127 n_125) fun (P_129 : pT) =>
  nm (zclr I_124 n_125) fun (I_130 : zT) =>
  nm (n_125 + 1) fun (n_131 : Nat) =>
  gd (isk S_128 a0 13) <|
  nm (pset P_129 a0 28 (some n_125)) fun (P_133 : pT) =>
  nm (snew S_128 n_131 20 4) fun (S_134 : sT) =>
  nm (pclr P_133 n_131) fun (P_135 : pT) =>
  nm (zclr I_130 n_131) fun (I_136 : zT) =>
  nm (n_131 + 1) fun (n_137 : Nat) =>
  gd (isk S_134 a0 13) <|
  nm (pset P_135 a0 29 (some n_131)) fun (P_139 : pT) =>
  nm (snew S_134 n_137 20 4) fun (S_140 : sT) =>
  nm (pclr P_139 n_137) fun (P_141 : pT) =>
  nm (zclr I_136 n_137) fun (I_142 : zT) =>
  nm (n_137 + 1) fun (n_143 : Nat) =>
  gd (isk S_140 a0 13) <|
  nm (pset P_141 a0 30 (some n_137)) fun (P_145 : pT) =>
  nm (snew S_140 n_143 20 4) fun (S_146 : sT) =>
  nm (pclr P_145 n_143) fun (P_147 : pT) =>
  nm (zclr I_142 n_143) fun (I_148 : zT) =>
  nm (n_143 + 1) fun (n_149 : Nat) =>
  gd (isk S_146 a0 13) <|
  nm (pset P_147 a0 31 (some n_143)) fun (P_151 : pT) =>
  nm (snew S_146 n_149 32 45) fun (S_152 : sT) =>
  nm (pclr P_151 n_149) fun (P_153 : pT) =>
  nm (zclr I_148 n_149) fun (I_154 : zT) =>
  nm (n_149 + 1) fun (n_155 : Nat) =>
  gd (isk S_152 n_149 32) <|
  gd (inb (0 : Int32) (S_152 n_149).2) <|
  nm (zset I_154 n_149 (ix (0 : Int32)) (32 : Int32)) fun (I_158 : zT) =>
  gd (inb (1 : Int32) (S_152 n_149).2) <|
  nm (zset I_158 n_149 (ix (1 : Int32)) (103 : Int32)) fun (I_160 : zT) =>
  gd (inb (2 : Int32) (S_152 n_149).2) <|
  nm (zset I_160 n_149 (ix (2 : Int32)) (105 : Int32)) fun (I_162 : zT) =>
  gd (inb (3 : Int32) (S_152 n_149).2) <|
  nm (zset I_162 n_149 (ix (3 : Int32)) (118 : Int32)) fun (I_164 : zT) =>
  gd (inb (4 : Int32) (S_152 n_149).2) <|
  nm (zset I_164 n_149 (ix (4 : Int32)) (101 : Int32)) fun (I_166 : zT) =>
  gd (inb (5 : Int32) (S_152 n_149).2) <|
  nm (zset I_166 n_149 (ix (5 : Int32)) (32 : Int32)) fun (I_168 : zT) =>
  gd (inb (6 : Int32) (S_152 n_149).2) <|
  nm (zset I_168 n_149 (ix (6 : Int32)) (115 : Int32)) fun (I_170 : zT) =>
  gd (inb (7 : Int32) (S_152 n_149).2) <|
  nm (zset I_170 n_149 (ix (7 : Int32)) (101 : Int32)) fun (I_172 : zT) =>
  gd (inb (8 : Int32) (S_152 n_149).2) <|
  nm (zset I_172 n_149 (ix (8 : Int32)) (101 : Int32)) fun (I_174 : zT) =>
  gd (inb (9 : Int32) (S_152 n_149).2) <|
  nm (zset I_174 n_149 (ix (9 : Int32)) (32 : Int32)) fun (I_176 : zT) =>
  gd (inb (10 : Int32) (S_152 n_149).2) <|
  nm (zset I_176 n_149 (ix (10 : Int32)) (115 : Int32)) fun (I_178 : zT) =>
  gd (inb (11 : Int32) (S_152 n_149).2) <|
  nm (zset I_178 n_149 (ix (11 : Int32)) (97 : Int32)) fun (I_180 : zT) =>
  gd (inb (12 : Int32) (S_152 n_149).2) <|
  nm (zset I_180 n_149 (ix (12 : Int32)) (121 : Int32)) fun (I_182 : zT) =>
  gd (inb (13 : Int32) (S_152 n_149).2) <|
  nm (zset I_182 n_149 (ix (13 : Int32)) (32 : Int32)) fun (I_184 : zT) =>
  gd (inb (14 : Int32) (S_152 n_149).2) <|
  nm (zset I_184 n_149 (ix (14 : Int32)) (108 : Int32)) fun (I_186 : zT) =>
  gd (inb (15 : Int32) (S_152 n_149).2) <|
  nm (zset I_186 n_149 (ix (15 : Int32)) (105 : Int32)) fun (I_188 : zT) =>
  gd (inb (16 : Int32) (S_152 n_149).2) <|
  nm (zset I_188 n_149 (ix (16 : Int32)) (101 : Int32)) fun (I_190 : zT) =>
  gd (inb (17 : Int32) (S_152 n_149).2) <|
  nm (zset I_190 n_149 (ix (17 : Int32)) (32 : Int32)) fun (I_192 : zT) =>
  gd (inb (18 : Int32) (S_152 n_149).2) <|
  nm (zset I_192 n_149 (ix (18 : Int32)) (114 : Int32)) fun (I_194 : zT) =>
  gd (inb (19 : Int32) (S_152 n_149).2) <|
  nm (zset I_194 n_149 (ix (19 : Int32)) (101 : Int32)) fun (I_196 : zT) =>
  gd (inb (20 : Int32) (S_152 n_149).2) <|
  nm (zset I_196 n_149 (ix (20 : Int32)) (115 : Int32)) fun (I_198 : zT) =>
  gd (inb (21 : Int32) (S_152 n_149).2) <|
  nm (zset I_198 n_149 (ix (21 : Int32)) (116 : Int32)) fun (I_200 : zT) =>
  gd (inb (22 : Int32) (S_152 n_149).2) <|
  nm (zset I_200 n_149 (ix (22 : Int32)) (32 : Int32)) fun (I_202 : zT) =>
  gd (inb (23 : Int32) (S_152 n_149).2) <|
  nm (zset I_202 n_149 (ix (23 : Int32)) (102 : Int32)) fun (I_204 : zT) =>
  gd (inb (24 : Int32) (S_152 n_149).2) <|
  nm (zset I_204 n_149 (ix (24 : Int32)) (101 : Int32)) fun (I_206 : zT) =>
  gd (inb (25 : Int32) (S_152 n_149).2) <|
  nm (zset I_206 n_149 (ix (25 : Int32)) (101 : Int32)) fun (I_208 : zT) =>
  gd (inb (26 : Int32) (S_152 n_149).2) <|
  nm (zset I_208 n_149 (ix (26 : Int32)) (108 : Int32)) fun (I_210 : zT) =>
  gd (inb (27 : Int32) (S_152 n_149).2) <|
  nm (zset I_210 n_149 (ix (27 : Int32)) (32 : Int32)) fun (I_212 : zT) =>
  gd (inb (28 : Int32) (S_152 n_149).2) <|
  nm (zset I_212 n_149 (ix (28 : Int32)) (116 : Int32)) fun (I_214 : zT) =>
  gd (inb (29 : Int32) (S_152 n_149).2) <|
  nm (zset I_214 n_149 (ix (29 : Int32)) (111 : Int32)) fun (I_216 : zT) =>
  gd (inb (30 : Int32) (S_152 n_149).2) <|
  nm (zset I_216 n_149 (ix (30 : Int32)) (32 : Int32)) fun (I_218 : zT) =>
  gd (inb (31 : Int32) (S_152 n_149).2) <|
  nm (zset I_218 n_149 (ix (31 : Int32)) (101 : Int32)) fun (I_220 : zT) =>
  gd (inb (32 : Int32) (S_152 n_149).2) <|
  nm (zset I_220 n_149 (ix (32 : Int32)) (121 : Int32)) fun (I_222 : zT) =>
  gd (inb (33 : Int32) (S_152 n_149).2) <|
  nm (zset I_222 n_149 (ix (33 : Int32)) (101 : Int32)) fun (I_224 : zT) =>
  gd (inb (34 : Int32) (S_152 n_149).2) <|
  nm (zset I_224 n_149 (ix (34 : Int32)) (32 : Int32)) fun (I_226 : zT) =>
  gd (inb (35 : Int32) (S_152 n_149).2) <|
  nm (zset I_226 n_149 (ix (35 : Int32)) (101 : Int32)) fun (I_228 : zT) =>
  gd (inb (36 : Int32) (S_152 n_149).2) <|
  nm (zset I_228 n_149 (ix (36 : Int32)) (97 : Int32)) fun (I_230 : zT) =>
  gd (inb (37 : Int32) (S_152 n_149).2) <|
  nm (zset I_230 n_149 (ix (37 : Int32)) (114 : Int32)) fun (I_232 : zT) =>
  gd (inb (38 : Int32) (S_152 n_149).2) <|
  nm (zset I_232 n_149 (ix (38 : Int32)) (32 : Int32)) fun (I_234 : zT) =>
  gd (inb (39 : Int32) (S_152 n_149).2) <|
  nm (zset I_234 n_149 (ix (39 : Int32)) (109 : Int32)) fun (I_236 : zT) =>
  gd (inb (40 : Int32) (S_152 n_149).2) <|
  nm (zset I_236 n_149 (ix (40 : Int32)) (111 : Int32)) fun (I_238 : zT) =>
  gd (inb (41 : Int32) (S_152 n_149).2) <|
  nm (zset I_238 n_149 (ix (41 : Int32)) (117 : Int32)) fun (I_240 : zT) =>
  gd (inb (42 : Int32) (S_152 n_149).2) <|
  nm (zset I_240 n_149 (ix (42 : Int32)) (116 : Int32)) fun (I_242 : zT) =>
  gd (inb (43 : Int32) (S_152 n_149).2) <|
  nm (zset I_242 n_149 (ix (43 : Int32)) (104 : Int32)) fun (I_244 : zT) =>
  gd (inb (44 : Int32) (S_152 n_149).2) <|
  nm (zset I_244 n_149 (ix (44 : Int32)) (32 : Int32)) fun (I_246 : zT) =>
  gd (isk S_152 a0 13) <|
  nm (pset P_153 a0 32 (some n_149)) fun (P_248 : pT) =>
  nm (snew S_152 n_155 20 400) fun (S_249 : sT) =>
  nm (pclr P_248 n_155) fun (P_250 : pT) =>
  nm (zclr I_246 n_155) fun (I_251 : zT) =>
  nm (n_155 + 1) fun (n_252 : Nat) =>
  gd (isk S_249 a0 13) <|
  nm (pset P_250 a0 33 (some n_155)) fun (P_254 : pT) =>
  nm (zset I_251 a0 42 (-1 : Int32)) fun (I_255 : zT) =>
  nm (snew S_249 n_252 20 600) fun (S_256 : sT) =>
  nm (pclr P_254 n_252) fun (P_257 : pT) =>
  nm (zclr I_255 n_252) fun (I_258 : zT) =>
  nm (n_252 + 1) fun (n_259 : Nat) =>
  gd (isk S_256 a0 13) <|
  nm (pset P_257 a0 43 (some n_252)) fun (P_261 : pT) =>
  nm (snew S_256 n_259 20 4) fun (S_262 : sT) =>
  nm (pclr P_261 n_259) fun (P_263 : pT) =>
  nm (zclr I_258 n_259) fun (I_264 : zT) =>
  nm (n_259 + 1) fun (n_265 : Nat) =>
  gd (isk S_262 a0 13) <|
  nm (pset P_263 a0 44 (some n_259)) fun (P_267 : pT) =>
  nm (snew S_262 n_265 20 4) fun (S_268 : sT) =>
  nm (pclr P_267 n_265) fun (P_269 : pT) =>
  nm (zclr I_264 n_265) fun (I_270 : zT) =>
  nm (n_265 + 1) fun (n_271 : Nat) =>
  gd (isk S_268 a0 13) <|
  nm (pset P_269 a0 45 (some n_265)) fun (P_273 : pT) =>
  nm (snew S_268 n_271 20 46656) fun (S_274 : sT) =>
  nm (pclr P_273 n_271) fun (P_275 : pT) =>
  nm (zclr I_270 n_271) fun (I_276 : zT) =>
  nm (n_271 + 1) fun (n_277 : Nat) =>
  gd (isk S_274 a0 13) <|
  nm (pset P_275 a0 46 (some n_271)) fun (P_279 : pT) =>
  nm (snew S_274 n_277 20 46656) fun (S_280 : sT) =>
  nm (pclr P_279 n_277) fun (P_281 : pT) =>
  nm (zclr I_276 n_277) fun (I_282 : zT) =>
  nm (n_277 + 1) fun (n_283 : Nat) =>
  gd (isk S_280 a0 13) <|
  nm (pset P_281 a0 48 (some n_277)) fun (P_285 : pT) =>
  nm (snew S_280 n_283 20 108) fun (S_286 : sT) =>
  nm (pclr P_285 n_283) fun (P_287 : pT) =>
  nm (zclr I_282 n_283) fun (I_288 : zT) =>
  nm (n_283 + 1) fun (n_289 : Nat) =>
  gd (isk S_286 a0 13) <|
  nm (pset P_287 a0 50 (some n_283)) fun (P_291 : pT) =>
  nm (snew S_286 n_289 20 351) fun (S_292 : sT) =>
  nm (pclr P_291 n_289) fun (P_293 : pT) =>
  nm (zclr I_288 n_289) fun (I_294 : zT) =>
  nm (n_289 + 1) fun (n_295 : Nat) =>
  gd (isk S_292 a0 13) <|
  nm (pset P_293 a0 51 (some n_289)) fun (P_297 : pT) =>
  nm (snew S_292 n_295 20 9) fun (S_298 : sT) =>
  nm (pclr P_297 n_295) fun (P_299 : pT) =>
  nm (zclr I_294 n_295) fun (I_300 : zT) =>
  nm (n_295 + 1) fun (n_301 : Nat) =>
  gd (isk S_298 a0 13) <|
  nm (pset P_299 a0 52 (some n_295)) fun (P_303 : pT) =>
  nm (snew S_298 n_301 20 9) fun (S_304 : sT) =>
  nm (pclr P_303 n_301) fun (P_305 : pT) =>
  nm (zclr I_300 n_301) fun (I_306 : zT) =>
  nm (n_301 + 1) fun (n_307 : Nat) =>
  gd (isk S_304 a0 13) <|
  nm (pset P_305 a0 53 (some n_301)) fun (P_309 : pT) =>
  nm (snew S_304 n_307 20 9) fun (S_310 : sT) =>
  nm (pclr P_309 n_307) fun (P_311 : pT) =>
  nm (zclr I_306 n_307) fun (I_312 : zT) =>
  nm (n_307 + 1) fun (n_313 : Nat) =>
  gd (isk S_310 a0 13) <|
  nm (pset P_311 a0 54 (some n_307)) fun (P_315 : pT) =>
  nm (snew S_310 n_313 20 9) fun (S_316 : sT) =>
  nm (pclr P_315 n_313) fun (P_317 : pT) =>
  nm (zclr I_312 n_313) fun (I_318 : zT) =>
  nm (n_313 + 1) fun (n_319 : Nat) =>
  gd (isk S_316 a0 13) <|
  nm (pset P_317 a0 56 (some n_313)) fun (P_321 : pT) =>
  nm (snew S_316 n_319 20 3) fun (S_322 : sT) =>
  nm (pclr P_321 n_319) fun (P_323 : pT) =>
  nm (zclr I_318 n_319) fun (I_324 : zT) =>
  nm (n_319 + 1) fun (n_325 : Nat) =>
  gd (isk S_322 a0 13) <|
  nm (pset P_323 a0 57 (some n_319)) fun (P_327 : pT) =>
  nm (snew S_322 n_325 20 36) fun (S_328 : sT) =>
  nm (pclr P_327 n_325) fun (P_329 : pT) =>
  nm (zclr I_324 n_325) fun (I_330 : zT) =>
  nm (n_325 + 1) fun (n_331 : Nat) =>
  gd (isk S_328 a0 13) <|
  nm (pset P_329 a0 58 (some n_325)) fun (P_333 : pT) =>
  nm (snew S_328 n_331 20 16) fun (S_334 : sT) =>
  nm (pclr P_333 n_331) fun (P_335 : pT) =>
  nm (zclr I_330 n_331) fun (I_336 : zT) =>
  nm (n_331 + 1) fun (n_337 : Nat) =>
  gd (isk S_334 a0 13) <|
  nm (pset P_335 a0 59 (some n_331)) fun (P_339 : pT) =>
  nm (snew S_334 n_337 20 2000) fun (S_340 : sT) =>
  nm (pclr P_339 n_337) fun (P_341 : pT) =>
  nm (zclr I_336 n_337) fun (I_342 : zT) =>
  nm (n_337 + 1) fun (n_343 : Nat) =>
  gd (isk S_340 a0 13) <|
  nm (pset P_341 a0 63 (some n_337)) fun (P_345 : pT) =>
  some (S_340, P_345, I_342, n_343)
