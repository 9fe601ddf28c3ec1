/-! OneEye's methods (those that make nothing) as functions of its memory (printed by gen/xgen.py) -/
def fJ13_bitCount (a0 : Int32) : Option (Int32) :=
  nm (a0 - ((jur a0 (1 : Int32)) &&& (1431655765 : Int32))) fun (x0_1 : Int32) =>
  nm ((x0_1 &&& (858993459 : Int32)) + ((jur x0_1 (2 : Int32)) &&& (858993459 : Int32))) fun (x0_2 : Int32) =>
  nm ((x0_2 + (jur x0_2 (4 : Int32))) &&& (252645135 : Int32)) fun (x0_3 : Int32) =>
  nm (x0_3 + (jur x0_3 (8 : Int32))) fun (x0_4 : Int32) =>
  nm (x0_4 + (jur x0_4 (16 : Int32))) fun (x0_5 : Int32) =>
  some (x0_5 &&& (63 : Int32))
def fJ13_numberOfTrailingZeros (a0 : Int32) : Option (Int32) :=
  nm ((a0 ^^^ (-1 : Int32)) &&& (a0 - (1 : Int32))) fun (x0_1 : Int32) =>
  if 0 < x0_1 then (
    nj (fun (x0_34 : Int32) (x1_34 : Int32) =>
      nj (fun (x0_49 : Int32) (x1_49 : Int32) =>
        nj (fun (x0_62 : Int32) (x1_62 : Int32) =>
          nj (fun (x0_74 : Int32) (x1_74 : Int32) =>
            some (x1_74 + (jur x0_74 (1 : Int32)))) fun j74 =>
          if x0_62 ≤ (4 : Int32) then (
            j74 x0_62 x1_62)
          else (
            nm (x1_62 + (2 : Int32)) fun (x1_4 : Int32) =>
            nm (jur x0_62 (2 : Int32)) fun (x0_5 : Int32) =>
            j74 x0_5 x1_4)) fun j62 =>
        if x0_49 ≤ (16 : Int32) then (
          j62 x0_49 x1_49)
        else (
          nm (x1_49 + (4 : Int32)) fun (x1_7 : Int32) =>
          nm (jur x0_49 (4 : Int32)) fun (x0_8 : Int32) =>
          j62 x0_8 x1_7)) fun j49 =>
      if x0_34 ≤ (256 : Int32) then (
        j49 x0_34 x1_34)
      else (
        nm (x1_34 + (8 : Int32)) fun (x1_10 : Int32) =>
        nm (jur x0_34 (8 : Int32)) fun (x0_11 : Int32) =>
        j49 x0_11 x1_10)) fun j34 =>
    if x0_1 ≤ (65536 : Int32) then (
      j34 x0_1 (1 : Int32))
    else (
      nm ((1 : Int32) + (16 : Int32)) fun (x1_13 : Int32) =>
      nm (jur x0_1 (16 : Int32)) fun (x0_14 : Int32) =>
      j34 x0_14 x1_13))
  else (
    some (x0_1 &&& (32 : Int32)))
def fJ5_checkIndex (a0 : Int32) (a1 : Int32) : Option (Int32) :=
  nj (
    none) fun j9 =>
  if a0 < 0 then (
    j9)
  else (
    if a0 < a1 then (
      some a0)
    else (
      j9))
def fJ12_checkIndex (a0 : Int32) (a1 : Int32) : Option (Int32) :=
  bd (fJ5_checkIndex a0 a1) fun (r_2 : Int32) =>
  some r_2
def fJ2_size (S : sT) (P : pT) (I : zT) (a0 : Nat) : Option (Int32) :=
  gd (isk S a0 5) <|
  some (I a0 2)
def fJ2_elementData (S : sT) (P : pT) (I : zT) (a0 : Nat) (a1 : Int32) : Option (Nat) :=
  gd (isk S a0 5) <|
  bd (P a0 1) fun (b_2 : Nat) =>
  gd (isk S b_2 23) <|
  gd (inb a1 (S b_2).2) <|
  bd (P b_2 (ix a1)) fun (b_5 : Nat) =>
  some b_5
def fJ2_get (S : sT) (P : pT) (I : zT) (a0 : Nat) (a1 : Int32) : Option (Nat) :=
  gd (isk S a0 5) <|
  bd (fJ12_checkIndex a1 (I a0 2)) fun (r_3 : Int32) =>
  bd (fJ2_elementData S P I a0 a1) fun (r_5 : Nat) =>
  some r_5
def fX3_is (S : sT) (P : pT) (I : zT) (a0 : Nat) (a1 : Int32) (a2 : Int32) (a3 : Int32) (a4 : Int32) : Option (zT) :=
  gd (isk S a0 4) <|
  nm (zset I a0 0 a1) fun (I_2 : zT) =>
  nm (zset I_2 a0 1 a2) fun (I_3 : zT) =>
  nm (zset I_3 a0 2 a3) fun (I_4 : zT) =>
  nm (zset I_4 a0 3 a4) fun (I_5 : zT) =>
  some I_5
def fX1_draw (S : sT) (P : pT) (I : zT) (a0 : Nat) (a1 : Int32) : Option (Int32 × zT) :=
  gd (isk S a0 2) <|
  nm (zset I a0 14 (((1664525 : Int32) * (I a0 14)) + (1013904223 : Int32))) fun (I_2 : zT) =>
  gd (!decide (a1 = 0)) <|
  some ((jr (jur (I_2 a0 14) (8 : Int32)) a1), I_2)
def fX2_hands (S : sT) (P : pT) (I : zT) (a0 : Nat) (a1 : Nat) : Option (zT) :=
  gd (isk S a0 3) <|
  nm (zset I a0 5 ((I a0 5) + (1 : Int32))) fun (I_2 : zT) =>
  nj (fun (I36 : zT) (t0_36 : Int32) =>
    nj (fun (t2_51 : Int32) =>
      nm (zset I36 a0 6 ((I36 a0 6) + t2_51)) fun (I_3 : zT) =>
      bd (P a0 1) fun (b_4 : Nat) =>
      nj (fun (I83 : zT) (t2_83 : Int32) =>
        gd (isk S b_4 20) <|
        gd (inb (I_3 a0 10) (S b_4).2) <|
        nm (zset I83 b_4 (ix (I_3 a0 10)) t2_83) fun (I_7 : zT) =>
        some I_7) fun j83 =>
      if t0_36 = 0 then (
        j83 I_3 (I_3 a0 11))
      else (
        gd (isk S a1 2) <|
        bdp (fX1_draw S P I_3 a1 (9 : Int32)) fun (r_11 : Int32) (I_12 : zT) =>
        j83 I_12 ((10 : Int32) + r_11))) fun j51 =>
    if t0_36 = 0 then (
      j51 (0 : Int32))
    else (
      j51 (1 : Int32))) fun j36 =>
  nj (fun (I35 : zT) =>
    j36 I35 (0 : Int32)) fun j35 =>
  if (I_2 a0 4) ≤ 0 then (
    j35 I_2)
  else (
    gd (isk S a1 2) <|
    bdp (fX1_draw S P I_2 a1 (1000 : Int32)) fun (r_17 : Int32) (I_18 : zT) =>
    if (I_18 a0 4) ≤ r_17 then (
      j35 I_18)
    else (
      j36 I_18 (1 : Int32)))
def lX2_free_2 (S : sT) (P : pT) (I : zT) (a0 : Nat) (s2 : Int32 → Option (Int32)) (x1_2 : Int32) : Option (Int32) :=
  if (3 : Int32) ≤ x1_2 then (
    some (0 : Int32))
  else (
    gd (isk S a0 3) <|
    bd (P a0 1) fun (b_3 : Nat) =>
    gd (isk S b_3 20) <|
    gd (inb (0 : Int32) (S b_3).2) <|
    nj (
      nm (x1_2 + (1 : Int32)) fun (x1_6 : Int32) =>
      s2 x1_6) fun j39 =>
    if (I b_3 (ix (0 : Int32))) = x1_2 then (
      j39)
    else (
      gd (inb (1 : Int32) (S b_3).2) <|
      if (I b_3 (ix (1 : Int32))) = x1_2 then (
        j39)
      else (
        gd (inb (2 : Int32) (S b_3).2) <|
        if (I b_3 (ix (2 : Int32))) = x1_2 then (
          j39)
        else (
          some x1_2))))
def fX2_free (S : sT) (P : pT) (I : zT) (a0 : Nat) : Option (Int32) :=
  nj (it0 (lX2_free_2 S P I a0) FU) fun k2 =>
  k2 (0 : Int32)
def fX2_goesOn (S : sT) (P : pT) (I : zT) (a0 : Nat) (a1 : Nat) : Option (zT) :=
  gd (isk S a0 3) <|
  nm (zset I a0 12 ((I a0 12) - (1 : Int32))) fun (I_2 : zT) =>
  if (I_2 a0 12) ≤ 0 then (
    nj (fun (I30 : zT) =>
      if (I30 a0 9) = (5 : Int32) then (
        bd (P a0 1) fun (b_5 : Nat) =>
        gd (isk S b_5 20) <|
        gd (inb (I30 a0 10) (S b_5).2) <|
        if (I30 b_5 (ix (I30 a0 10))) = ((10 : Int32) + (I30 a0 11)) then (
          bd (fX2_free S P I30 a0) fun (r_10 : Int32) =>
          nm (zset I30 b_5 (ix (I30 a0 10)) r_10) fun (I_11 : zT) =>
          some I_11)
        else (
          some I30))
      else (
        some I30)) fun j30 =>
    if (I_2 a0 9) = 0 then (
      bd (fX2_hands S P I_2 a0 a1) fun (I_14 : zT) =>
      j30 I_14)
    else (
      j30 I_2))
  else (
    some I_2)
def fX2_does (S : sT) (P : pT) (I : zT) (a0 : Nat) (a1 : Int32) (a2 : Int32) (a3 : Int32) (a4 : Int32) : Option (zT) :=
  gd (isk S a0 3) <|
  nm (zset I a0 9 a1) fun (I_2 : zT) =>
  nm (zset I_2 a0 10 a2) fun (I_3 : zT) =>
  nm (zset I_3 a0 11 a3) fun (I_4 : zT) =>
  nm (zset I_4 a0 12 a4) fun (I_5 : zT) =>
  some I_5
def fX8_begins (S : sT) (P : pT) (I : zT) (a0 : Nat) (a1 : Nat) (a2 : Nat) : Option (zT) :=
  gd (isk S a2 3) <|
  bd (P a2 1) fun (b_2 : Nat) =>
  gd (isk S a0 8) <|
  gd (isk S b_2 20) <|
  gd (inb (I a0 0) (S b_2).2) <|
  if (3 : Int32) ≤ (I b_2 (ix (I a0 0))) then (
    some I)
  else (
    if (I b_2 (ix (I a0 0))) = (I a0 1) then (
      some I)
    else (
      nm (zset I b_2 (ix (I a0 0)) (3 : Int32)) fun (I_8 : zT) =>
      bd (fX2_does S P I_8 a2 (0 : Int32) (I_8 a0 0) (I_8 a0 1) (I_8 a2 3)) fun (I_10 : zT) =>
      bd (fX2_goesOn S P I_10 a2 a1) fun (I_12 : zT) =>
      some I_12))
def fX1_isNight (S : sT) (P : pT) (I : zT) (a0 : Nat) : Option (Int32) :=
  gd (isk S a0 2) <|
  if (jr (I a0 16) (240 : Int32)) < (I a0 20) then (
    some (0 : Int32))
  else (
    some (1 : Int32))
def fX2_person (S : sT) (P : pT) (I : zT) (a0 : Nat) (a1 : Int32) : Option (Int32) :=
  gd (isk S a0 3) <|
  some (((3 : Int32) * (I a0 0)) + a1)
def fX9_begins (S : sT) (P : pT) (I : zT) (a0 : Nat) (a1 : Nat) (a2 : Nat) : Option (zT) :=
  gd (isk S a2 3) <|
  bd (P a2 1) fun (b_2 : Nat) =>
  gd (isk S b_2 20) <|
  gd (inb (0 : Int32) (S b_2).2) <|
  if (3 : Int32) ≤ (I b_2 (ix (0 : Int32))) then (
    some I)
  else (
    gd (isk S a1 2) <|
    bd (fX1_isNight S P I a1) fun (r_8 : Int32) =>
    if r_8 = 0 then (
      bd (fX2_person S P I a2 (I b_2 (ix (0 : Int32)))) fun (r_11 : Int32) =>
      bd (P a1 1) fun (b_12 : Nat) =>
      gd (isk S b_12 24) <|
      gd (inb r_11 (S b_12).2) <|
      bd (P b_12 (ix r_11)) fun (b_15 : Nat) =>
      gd (isk S a0 9) <|
      bd (P a1 8) fun (b_17 : Nat) =>
      gd (isk S b_17 21) <|
      gd (inb (I a0 0) (S b_17).2) <|
      nj (fun (t2_56 : Int32) =>
        gd (isk S b_15 20) <|
        gd (inb (I a0 0) (S b_15).2) <|
        nm (zset I b_15 (ix (I a0 0)) t2_56) fun (I_22 : zT) =>
        bd (P a1 4) fun (b_23 : Nat) =>
        gd (isk S b_23 27) <|
        gd (inb r_11 (S b_23).2) <|
        bd (P b_23 (ix r_11)) fun (b_26 : Nat) =>
        gd (isk S b_26 26) <|
        gd (inb (I_22 a0 0) (S b_26).2) <|
        bd (P b_26 (ix (I_22 a0 0))) fun (b_29 : Nat) =>
        gd (isk S b_29 4) <|
        bd (fX3_is S P I_22 b_29 r_11 (I_22 a1 16) (0 : Int32) (0 : Int32)) fun (I_32 : zT) =>
        some I_32) fun j56 =>
      if (I b_17 (ix (I a0 0))) = 0 then (
        j56 (2 : Int32))
      else (
        j56 (1 : Int32)))
    else (
      some I))
def fX1_writes (S : sT) (P : pT) (I : zT) (a0 : Nat) (a1 : Int32) (a2 : Int32) (a3 : Int32) (a4 : Int32) : Option (zT) :=
  gd (isk S a0 2) <|
  if (I a0 17) = (99 : Int32) then (
    some I)
  else (
    bd (P a0 3) fun (b_3 : Nat) =>
    gd (isk S b_3 24) <|
    gd (inb (I a0 17) (S b_3).2) <|
    bd (P b_3 (ix (I a0 17))) fun (b_6 : Nat) =>
    gd (isk S b_6 20) <|
    gd (inb (0 : Int32) (S b_6).2) <|
    nm (zset I b_6 (ix (0 : Int32)) a1) fun (I_9 : zT) =>
    gd (inb (1 : Int32) (S b_6).2) <|
    nm (zset I_9 b_6 (ix (1 : Int32)) a2) fun (I_11 : zT) =>
    gd (inb (2 : Int32) (S b_6).2) <|
    nm (zset I_11 b_6 (ix (2 : Int32)) a3) fun (I_13 : zT) =>
    gd (inb (3 : Int32) (S b_6).2) <|
    nm (zset I_13 b_6 (ix (3 : Int32)) a4) fun (I_15 : zT) =>
    gd (inb (4 : Int32) (S b_6).2) <|
    nm (zset I_15 b_6 (ix (4 : Int32)) (I_15 a0 16)) fun (I_17 : zT) =>
    nm (zset I_17 a0 17 ((I_17 a0 17) + (1 : Int32))) fun (I_18 : zT) =>
    some I_18)
def fX10_begins (S : sT) (P : pT) (I : zT) (a0 : Nat) (a1 : Nat) (a2 : Nat) : Option (zT) :=
  gd (isk S a1 2) <|
  bd (P a1 0) fun (b_2 : Nat) =>
  gd (isk S a0 10) <|
  gd (isk S b_2 25) <|
  gd (inb (I a0 1) (S b_2).2) <|
  bd (P b_2 (ix (I a0 1))) fun (b_6 : Nat) =>
  gd (isk S a2 3) <|
  bd (P a2 1) fun (b_8 : Nat) =>
  gd (isk S b_8 20) <|
  gd (inb (2 : Int32) (S b_8).2) <|
  if (3 : Int32) ≤ (I b_8 (ix (2 : Int32))) then (
    some I)
  else (
    gd (isk S b_6 3) <|
    bd (P b_6 1) fun (b_13 : Nat) =>
    gd (isk S b_13 20) <|
    gd (inb (1 : Int32) (S b_13).2) <|
    if (I b_13 (ix (1 : Int32))) < (3 : Int32) then (
      bd (fX2_person S P I a2 (I b_8 (ix (2 : Int32)))) fun (r_18 : Int32) =>
      bd (P a1 1) fun (b_19 : Nat) =>
      gd (isk S b_19 24) <|
      gd (inb r_18 (S b_19).2) <|
      bd (P b_19 (ix r_18)) fun (b_22 : Nat) =>
      gd (isk S b_22 20) <|
      gd (inb (I a0 0) (S b_22).2) <|
      nm (I b_22 (ix (I a0 0))) fun (x5_25 : Int32) =>
      if x5_25 = 0 then (
        some I)
      else (
        nj (fun (t0_79 : Int32) =>
          bd (fX2_person S P I b_6 (I b_13 (ix (1 : Int32)))) fun (r_28 : Int32) =>
          bd (P a1 7) fun (b_29 : Nat) =>
          gd (isk S b_29 28) <|
          gd (inb r_28 (S b_29).2) <|
          bd (P b_29 (ix r_28)) fun (b_32 : Nat) =>
          gd (isk S b_32 21) <|
          gd (inb (I a2 0) (S b_32).2) <|
          nj (fun (I186 : zT) =>
            nj (fun (t3_204 : Int32) =>
              bd (fX1_writes S P I186 a1 r_18 (I186 a0 0) t3_204 r_28) fun (I_36 : zT) =>
              some I_36) fun j204 =>
            if t0_79 = (1 : Int32) then (
              j204 (1 : Int32))
            else (
              j204 (0 : Int32))) fun j186 =>
          if (I b_32 (ix (I a2 0))) = 0 then (
            j186 I)
          else (
            bd (P a1 4) fun (b_39 : Nat) =>
            gd (isk S b_39 27) <|
            gd (inb r_18 (S b_39).2) <|
            bd (P b_39 (ix r_18)) fun (b_42 : Nat) =>
            gd (isk S b_42 26) <|
            gd (inb (I a0 0) (S b_42).2) <|
            bd (P b_42 (ix (I a0 0))) fun (b_45 : Nat) =>
            gd (inb r_28 (S b_19).2) <|
            bd (P b_19 (ix r_28)) fun (b_47 : Nat) =>
            gd (isk S b_47 20) <|
            gd (inb (I a0 0) (S b_47).2) <|
            nm (zset I b_47 (ix (I a0 0)) t0_79) fun (I_50 : zT) =>
            gd (inb r_28 (S b_39).2) <|
            bd (P b_39 (ix r_28)) fun (b_52 : Nat) =>
            gd (isk S b_52 26) <|
            gd (inb (I_50 a0 0) (S b_52).2) <|
            bd (P b_52 (ix (I_50 a0 0))) fun (b_55 : Nat) =>
            gd (isk S b_45 4) <|
            nj (fun (t5_182 : Int32) =>
              gd (isk S b_55 4) <|
              bd (fX3_is S P I_50 b_55 (I_50 b_45 0) (I_50 b_45 1) ((I_50 b_45 2) + (1 : Int32)) ((I_50 b_45 3) + t5_182)) fun (I_59 : zT) =>
              j186 I_59) fun j182 =>
            if (I_50 a0 2) = 0 then (
              j182 (0 : Int32))
            else (
              j182 (1 : Int32)))) fun j79 =>
        if (I a0 2) = 0 then (
          j79 x5_25)
        else (
          j79 ((3 : Int32) - x5_25))))
    else (
      some I))
def fX11_begins (S : sT) (P : pT) (I : zT) (a0 : Nat) (a1 : Nat) (a2 : Nat) : Option (zT) :=
  gd (isk S a0 11) <|
  gd (isk S a2 3) <|
  bd (fX2_does S P I a2 (4 : Int32) (0 : Int32) (0 : Int32) (I a0 0)) fun (I_4 : zT) =>
  bd (fX2_goesOn S P I_4 a2 a1) fun (I_6 : zT) =>
  some I_6
def fX12_begins (S : sT) (P : pT) (I : zT) (a0 : Nat) (a1 : Nat) (a2 : Nat) : Option (zT) :=
  gd (isk S a0 12) <|
  gd (isk S a2 3) <|
  bd (fX2_does S P I a2 (5 : Int32) (I a0 0) (I a0 1) (2 : Int32)) fun (I_4 : zT) =>
  bd (fX2_goesOn S P I_4 a2 a1) fun (I_6 : zT) =>
  some I_6
def fStep_begins (S : sT) (P : pT) (I : zT) (r a1 a0 : Nat) : Option zT :=
  if (S r).1 = 8 then fX8_begins S P I r a1 a0
  else if (S r).1 = 9 then fX9_begins S P I r a1 a0
  else if (S r).1 = 10 then fX10_begins S P I r a1 a0
  else if (S r).1 = 11 then fX11_begins S P I r a1 a0
  else if (S r).1 = 12 then fX12_begins S P I r a1 a0
  else none
def fX2_aMinute (S : sT) (P : pT) (I : zT) (a0 : Nat) (a1 : Nat) : Option (zT) :=
  gd (isk S a0 3) <|
  if (I a0 12) ≤ 0 then (
    bd (P a0 2) fun (b_3 : Nat) =>
    gd (isk S b_3 5) <|
    bd (fJ2_size S P I b_3) fun (r_6 : Int32) =>
    if r_6 ≤ (I a0 8) then (
      some I)
    else (
      nm (zset I a0 8 ((I a0 8) + (1 : Int32))) fun (I_8 : zT) =>
      bd (fJ2_get S P I_8 b_3 ((I_8 a0 8) - (1 : Int32))) fun (r_10 : Nat) =>
      gd (isst S r_10) <|
      bd (fStep_begins S P I_8 r_10 a1 a0) fun (I57 : zT) =>
      some I57))
  else (
    bd (fX2_goesOn S P I a0 a1) fun (I_14 : zT) =>
    some I_14)
def lX1_sounds_2 (S : sT) (P : pT) (a0 : Nat) (s2 : zT → Int32 → Option (zT)) (I2 : zT) (x1_2 : Int32) : Option (zT) :=
  gd (isk S a0 2) <|
  if (I2 a0 15) ≤ x1_2 then (
    some I2)
  else (
    bd (P a0 0) fun (b_3 : Nat) =>
    gd (isk S b_3 25) <|
    gd (inb x1_2 (S b_3).2) <|
    bd (P b_3 (ix x1_2)) fun (b_6 : Nat) =>
    gd (isk S b_6 3) <|
    bd (P b_6 1) fun (b_8 : Nat) =>
    gd (isk S b_8 20) <|
    gd (inb (1 : Int32) (S b_8).2) <|
    nm (I2 b_8 (ix (1 : Int32))) fun (x2_11 : Int32) =>
    nj (fun (I64 : zT) =>
      nm (x1_2 + (1 : Int32)) fun (x1_12 : Int32) =>
      s2 I64 x1_12) fun j64 =>
    if (3 : Int32) ≤ x2_11 then (
      nm (zset I2 b_6 7 ((I2 b_6 7) + (1 : Int32))) fun (I_14 : zT) =>
      j64 I_14)
    else (
      bd (P a0 6) fun (b_15 : Nat) =>
      bd (fX2_person S P I2 b_6 x2_11) fun (r_17 : Int32) =>
      gd (isk S b_15 20) <|
      gd (inb r_17 (S b_15).2) <|
      nm (zset I2 b_15 (ix r_17) ((I2 b_15 (ix r_17)) + (1 : Int32))) fun (I_20 : zT) =>
      j64 I_20))
def fX1_sounds (S : sT) (P : pT) (I : zT) (a0 : Nat) : Option (zT) :=
  nj (it1 (lX1_sounds_2 S P a0) FU) fun k2 =>
  k2 I (0 : Int32)
def lX1_aMinute_95 (S : sT) (P : pT) (a0 : Nat) (x1_85 : Int32) (j152 : zT → Option (zT)) (s95 : zT → Int32 → Option (zT)) (I95 : zT) (x2_95 : Int32) : Option (zT) :=
  if (3 : Int32) ≤ x2_95 then (
    j152 I95)
  else (
    bd (P a0 0) fun (b_6 : Nat) =>
    gd (isk S b_6 25) <|
    gd (inb x1_85 (S b_6).2) <|
    bd (P b_6 (ix x1_85)) fun (b_9 : Nat) =>
    gd (isk S b_9 3) <|
    bd (P b_9 1) fun (b_11 : Nat) =>
    gd (isk S b_11 20) <|
    gd (inb x2_95 (S b_11).2) <|
    nj (fun (I146 : zT) =>
      nm (x2_95 + (1 : Int32)) fun (x2_14 : Int32) =>
      s95 I146 x2_14) fun j146 =>
    if (3 : Int32) ≤ (I95 b_11 (ix x2_95)) then (
      j146 I95)
    else (
      bd (P a0 2) fun (b_16 : Nat) =>
      bd (fX2_person S P I95 b_9 (I95 b_11 (ix x2_95))) fun (r_18 : Int32) =>
      gd (isk S b_16 24) <|
      gd (inb r_18 (S b_16).2) <|
      bd (P b_16 (ix r_18)) fun (b_21 : Nat) =>
      gd (isk S b_21 20) <|
      gd (inb x2_95 (S b_21).2) <|
      nm (zset I95 b_21 (ix x2_95) ((I95 b_21 (ix x2_95)) + (1 : Int32))) fun (I_24 : zT) =>
      j146 I_24))
def lX1_aMinute_85 (S : sT) (P : pT) (a0 : Nat) (j158 : zT → Option (zT)) (s85 : zT → Int32 → Option (zT)) (I85 : zT) (x1_85 : Int32) : Option (zT) :=
  if (I85 a0 15) ≤ x1_85 then (
    j158 I85)
  else (
    nj (fun (I152 : zT) =>
      nm (x1_85 + (1 : Int32)) fun (x1_4 : Int32) =>
      s85 I152 x1_4) fun j152 =>
    nj (it1 (lX1_aMinute_95 S P a0 x1_85 j152) FU) fun k95 =>
    k95 I85 (0 : Int32))
def lX1_aMinute_52 (S : sT) (P : pT) (a0 : Nat) (j83 : zT → Option (zT)) (s52 : zT → Int32 → Option (zT)) (I52 : zT) (x1_52 : Int32) : Option (zT) :=
  if (I52 a0 19) ≤ x1_52 then (
    j83 I52)
  else (
    bd (P a0 5) fun (b_26 : Nat) =>
    gd (isk S b_26 20) <|
    gd (inb x1_52 (S b_26).2) <|
    nj (fun (I77 : zT) =>
      nm (x1_52 + (1 : Int32)) fun (x1_29 : Int32) =>
      s52 I77 x1_29) fun j77 =>
    if (I52 b_26 (ix x1_52)) = (I52 a0 16) then (
      bd (fX1_sounds S P I52 a0) fun (I_32 : zT) =>
      j77 I_32)
    else (
      j77 I52))
def lX1_aMinute_26 (S : sT) (P : pT) (a0 : Nat) (j50 : zT → Option (zT)) (s26 : zT → Int32 → Option (zT)) (I26 : zT) (x1_26 : Int32) : Option (zT) :=
  if (I26 a0 15) ≤ x1_26 then (
    j50 I26)
  else (
    bd (P a0 0) fun (b_34 : Nat) =>
    gd (isk S b_34 25) <|
    gd (inb x1_26 (S b_34).2) <|
    bd (P b_34 (ix x1_26)) fun (b_37 : Nat) =>
    gd (isk S b_37 3) <|
    bd (fX2_aMinute S P I26 b_37 a0) fun (I_40 : zT) =>
    nm (x1_26 + (1 : Int32)) fun (x1_41 : Int32) =>
    s26 I_40 x1_41)
def fX1_aMinute (S : sT) (P : pT) (I : zT) (a0 : Nat) : Option (zT) :=
  gd (isk S a0 2) <|
  nj (fun (I24 : zT) =>
    nj (fun (I50 : zT) =>
      nj (fun (I83 : zT) =>
        nj (fun (I158 : zT) =>
          nm (zset I158 a0 16 ((I158 a0 16) + (1 : Int32))) fun (I_2 : zT) =>
          some I_2) fun j158 =>
        nj (it1 (lX1_aMinute_85 S P a0 j158) FU) fun k85 =>
        k85 I83 (0 : Int32)) fun j83 =>
      nj (it1 (lX1_aMinute_52 S P a0 j83) FU) fun k52 =>
      k52 I50 (0 : Int32)) fun j50 =>
    nj (it1 (lX1_aMinute_26 S P a0 j50) FU) fun k26 =>
    k26 I24 (0 : Int32)) fun j24 =>
  if (jr (I a0 16) (240 : Int32)) = 0 then (
    bdp (fX1_draw S P I a0 (61 : Int32)) fun (r_44 : Int32) (I_45 : zT) =>
    nm (zset I_45 a0 20 ((120 : Int32) + r_44)) fun (I_46 : zT) =>
    j24 I_46)
  else (
    j24 I)
def lX2_takes_2 (S : sT) (P : pT) (a0 : Nat) (a1 : Nat) (j25 : zT → Option (pT × zT)) (s2 : zT → Int32 → Option (pT × zT)) (I2 : zT) (x2_2 : Int32) : Option (pT × zT) :=
  if (3 : Int32) ≤ x2_2 then (
    j25 I2)
  else (
    gd (isk S a0 3) <|
    bd (P a0 1) fun (b_17 : Nat) =>
    gd (isk S a1 3) <|
    bd (P a1 1) fun (b_19 : Nat) =>
    gd (isk S b_19 20) <|
    gd (inb x2_2 (S b_19).2) <|
    gd (isk S b_17 20) <|
    gd (inb x2_2 (S b_17).2) <|
    nm (zset I2 b_17 (ix x2_2) (I2 b_19 (ix x2_2))) fun (I_24 : zT) =>
    nm (x2_2 + (1 : Int32)) fun (x2_25 : Int32) =>
    s2 I_24 x2_25)
def fX2_takes (S : sT) (P : pT) (I : zT) (a0 : Nat) (a1 : Nat) : Option (pT × zT) :=
  nj (fun (I25 : zT) =>
    gd (isk S a1 3) <|
    bd (P a1 2) fun (b_2 : Nat) =>
    gd (isk S a0 3) <|
    nm (pset P a0 2 (some b_2)) fun (P_4 : pT) =>
    nm (zset I25 a0 3 (I25 a1 3)) fun (I_5 : zT) =>
    nm (zset I_5 a0 4 (I_5 a1 4)) fun (I_6 : zT) =>
    nm (zset I_6 a0 5 (I_6 a1 5)) fun (I_7 : zT) =>
    nm (zset I_7 a0 6 (I_7 a1 6)) fun (I_8 : zT) =>
    nm (zset I_8 a0 7 (I_8 a1 7)) fun (I_9 : zT) =>
    nm (zset I_9 a0 8 (I_9 a1 8)) fun (I_10 : zT) =>
    nm (zset I_10 a0 9 (I_10 a1 9)) fun (I_11 : zT) =>
    nm (zset I_11 a0 10 (I_11 a1 10)) fun (I_12 : zT) =>
    nm (zset I_12 a0 11 (I_12 a1 11)) fun (I_13 : zT) =>
    nm (zset I_13 a0 12 (I_13 a1 12)) fun (I_14 : zT) =>
    some (P_4, I_14)) fun j25 =>
  nj (it1 (lX2_takes_2 S P a0 a1 j25) FU) fun k2 =>
  k2 I (0 : Int32)
def lX1_takes_492 (S : sT) (a0 : Nat) (a1 : Nat) (P162 : pT) (s492 : zT → Int32 → Option (pT × zT)) (I492 : zT) (x2_492 : Int32) : Option (pT × zT) :=
  if (I492 a0 18) ≤ x2_492 then (
    some (P162, I492))
  else (
    bd (P162 a0 13) fun (b_11 : Nat) =>
    bd (P162 a1 13) fun (b_12 : Nat) =>
    gd (isk S b_12 20) <|
    gd (inb x2_492 (S b_12).2) <|
    gd (isk S b_11 20) <|
    gd (inb x2_492 (S b_11).2) <|
    nm (zset I492 b_11 (ix x2_492) (I492 b_12 (ix x2_492))) fun (I_17 : zT) =>
    nm (x2_492 + (1 : Int32)) fun (x2_18 : Int32) =>
    s492 I_17 x2_18)
def lX1_takes_454 (S : sT) (a0 : Nat) (a1 : Nat) (P162 : pT) (j490 : zT → Option (pT × zT)) (s454 : zT → Int32 → Option (pT × zT)) (I454 : zT) (x2_454 : Int32) : Option (pT × zT) :=
  if (9 : Int32) ≤ x2_454 then (
    j490 I454)
  else (
    bd (P162 a0 11) fun (b_20 : Nat) =>
    bd (P162 a1 11) fun (b_21 : Nat) =>
    gd (isk S b_21 20) <|
    gd (inb x2_454 (S b_21).2) <|
    gd (isk S b_20 20) <|
    gd (inb x2_454 (S b_20).2) <|
    nm (zset I454 b_20 (ix x2_454) (I454 b_21 (ix x2_454))) fun (I_26 : zT) =>
    bd (P162 a0 12) fun (b_27 : Nat) =>
    bd (P162 a1 12) fun (b_28 : Nat) =>
    gd (isk S b_28 20) <|
    gd (inb x2_454 (S b_28).2) <|
    gd (isk S b_27 20) <|
    gd (inb x2_454 (S b_27).2) <|
    nm (zset I_26 b_27 (ix x2_454) (I_26 b_28 (ix x2_454))) fun (I_33 : zT) =>
    nm (x2_454 + (1 : Int32)) fun (x2_34 : Int32) =>
    s454 I_33 x2_34)
def lX1_takes_406 (S : sT) (a0 : Nat) (a1 : Nat) (P162 : pT) (x2_390 : Int32) (x3_398 : Int32) (j440 : zT → Option (pT × zT)) (s406 : zT → Int32 → Option (pT × zT)) (I406 : zT) (x4_406 : Int32) : Option (pT × zT) :=
  if (3 : Int32) ≤ x4_406 then (
    j440 I406)
  else (
    bd (P162 a0 9) fun (b_40 : Nat) =>
    gd (isk S b_40 29) <|
    gd (inb x2_390 (S b_40).2) <|
    bd (P162 b_40 (ix x2_390)) fun (b_43 : Nat) =>
    gd (isk S b_43 24) <|
    gd (inb x3_398 (S b_43).2) <|
    bd (P162 b_43 (ix x3_398)) fun (b_46 : Nat) =>
    bd (P162 a1 9) fun (b_47 : Nat) =>
    gd (isk S b_47 29) <|
    gd (inb x2_390 (S b_47).2) <|
    bd (P162 b_47 (ix x2_390)) fun (b_50 : Nat) =>
    gd (isk S b_50 24) <|
    gd (inb x3_398 (S b_50).2) <|
    bd (P162 b_50 (ix x3_398)) fun (b_53 : Nat) =>
    gd (isk S b_53 20) <|
    gd (inb x4_406 (S b_53).2) <|
    gd (isk S b_46 20) <|
    gd (inb x4_406 (S b_46).2) <|
    nm (zset I406 b_46 (ix x4_406) (I406 b_53 (ix x4_406))) fun (I_58 : zT) =>
    nm (x4_406 + (1 : Int32)) fun (x4_59 : Int32) =>
    s406 I_58 x4_59)
def lX1_takes_398 (S : sT) (a0 : Nat) (a1 : Nat) (P162 : pT) (x2_390 : Int32) (j446 : zT → Option (pT × zT)) (s398 : zT → Int32 → Option (pT × zT)) (I398 : zT) (x3_398 : Int32) : Option (pT × zT) :=
  if (3 : Int32) ≤ x3_398 then (
    j446 I398)
  else (
    nj (fun (I440 : zT) =>
      nm (x3_398 + (1 : Int32)) fun (x3_38 : Int32) =>
      s398 I440 x3_38) fun j440 =>
    nj (it1 (lX1_takes_406 S a0 a1 P162 x2_390 x3_398 j440) FU) fun k406 =>
    k406 I398 (0 : Int32))
def lX1_takes_390 (S : sT) (a0 : Nat) (a1 : Nat) (P162 : pT) (j452 : zT → Option (pT × zT)) (s390 : zT → Int32 → Option (pT × zT)) (I390 : zT) (x2_390 : Int32) : Option (pT × zT) :=
  if (12 : Int32) ≤ x2_390 then (
    j452 I390)
  else (
    nj (fun (I446 : zT) =>
      nm (x2_390 + (1 : Int32)) fun (x2_36 : Int32) =>
      s390 I446 x2_36) fun j446 =>
    nj (it1 (lX1_takes_398 S a0 a1 P162 x2_390 j446) FU) fun k398 =>
    k398 I390 (0 : Int32))
def lX1_takes_364 (S : sT) (a0 : Nat) (a1 : Nat) (P162 : pT) (j388 : zT → Option (pT × zT)) (s364 : zT → Int32 → Option (pT × zT)) (I364 : zT) (x2_364 : Int32) : Option (pT × zT) :=
  if (10 : Int32) ≤ x2_364 then (
    j388 I364)
  else (
    bd (P162 a0 8) fun (b_61 : Nat) =>
    bd (P162 a1 8) fun (b_62 : Nat) =>
    gd (isk S b_62 21) <|
    gd (inb x2_364 (S b_62).2) <|
    gd (isk S b_61 21) <|
    gd (inb x2_364 (S b_61).2) <|
    gd (isb (I364 b_62 (ix x2_364))) <|
    nm (zset I364 b_61 (ix x2_364) (I364 b_62 (ix x2_364))) fun (I_68 : zT) =>
    nm (x2_364 + (1 : Int32)) fun (x2_69 : Int32) =>
    s364 I_68 x2_69)
def lX1_takes_329 (S : sT) (a0 : Nat) (a1 : Nat) (P162 : pT) (x2_319 : Int32) (j356 : zT → Option (pT × zT)) (s329 : zT → Int32 → Option (pT × zT)) (I329 : zT) (x3_329 : Int32) : Option (pT × zT) :=
  if (5 : Int32) ≤ x3_329 then (
    j356 I329)
  else (
    bd (P162 a0 3) fun (b_73 : Nat) =>
    gd (isk S b_73 24) <|
    gd (inb x2_319 (S b_73).2) <|
    bd (P162 b_73 (ix x2_319)) fun (b_76 : Nat) =>
    bd (P162 a1 3) fun (b_77 : Nat) =>
    gd (isk S b_77 24) <|
    gd (inb x2_319 (S b_77).2) <|
    bd (P162 b_77 (ix x2_319)) fun (b_80 : Nat) =>
    gd (isk S b_80 20) <|
    gd (inb x3_329 (S b_80).2) <|
    gd (isk S b_76 20) <|
    gd (inb x3_329 (S b_76).2) <|
    nm (zset I329 b_76 (ix x3_329) (I329 b_80 (ix x3_329))) fun (I_85 : zT) =>
    nm (x3_329 + (1 : Int32)) fun (x3_86 : Int32) =>
    s329 I_85 x3_86)
def lX1_takes_319 (S : sT) (a0 : Nat) (a1 : Nat) (P162 : pT) (j362 : zT → Option (pT × zT)) (s319 : zT → Int32 → Option (pT × zT)) (I319 : zT) (x2_319 : Int32) : Option (pT × zT) :=
  if (I319 a0 17) ≤ x2_319 then (
    j362 I319)
  else (
    nj (fun (I356 : zT) =>
      nm (x2_319 + (1 : Int32)) fun (x2_71 : Int32) =>
      s319 I356 x2_71) fun j356 =>
    nj (it1 (lX1_takes_329 S a0 a1 P162 x2_319 j356) FU) fun k329 =>
    k329 I319 (0 : Int32))
def lX1_takes_284 (S : sT) (a0 : Nat) (a1 : Nat) (P162 : pT) (x2_164 : Int32) (j311 : zT → Option (pT × zT)) (s284 : zT → Int32 → Option (pT × zT)) (I284 : zT) (x3_284 : Int32) : Option (pT × zT) :=
  if (4 : Int32) ≤ x3_284 then (
    j311 I284)
  else (
    bd (P162 a0 7) fun (b_97 : Nat) =>
    gd (isk S b_97 28) <|
    gd (inb x2_164 (S b_97).2) <|
    bd (P162 b_97 (ix x2_164)) fun (b_100 : Nat) =>
    bd (P162 a1 7) fun (b_101 : Nat) =>
    gd (isk S b_101 28) <|
    gd (inb x2_164 (S b_101).2) <|
    bd (P162 b_101 (ix x2_164)) fun (b_104 : Nat) =>
    gd (isk S b_104 21) <|
    gd (inb x3_284 (S b_104).2) <|
    gd (isk S b_100 21) <|
    gd (inb x3_284 (S b_100).2) <|
    gd (isb (I284 b_104 (ix x3_284))) <|
    nm (zset I284 b_100 (ix x3_284) (I284 b_104 (ix x3_284))) fun (I_110 : zT) =>
    nm (x3_284 + (1 : Int32)) fun (x3_111 : Int32) =>
    s284 I_110 x3_111)
def lX1_takes_255 (S : sT) (a0 : Nat) (a1 : Nat) (P162 : pT) (x2_164 : Int32) (j282 : zT → Option (pT × zT)) (s255 : zT → Int32 → Option (pT × zT)) (I255 : zT) (x3_255 : Int32) : Option (pT × zT) :=
  if (3 : Int32) ≤ x3_255 then (
    j282 I255)
  else (
    bd (P162 a0 2) fun (b_113 : Nat) =>
    gd (isk S b_113 24) <|
    gd (inb x2_164 (S b_113).2) <|
    bd (P162 b_113 (ix x2_164)) fun (b_116 : Nat) =>
    bd (P162 a1 2) fun (b_117 : Nat) =>
    gd (isk S b_117 24) <|
    gd (inb x2_164 (S b_117).2) <|
    bd (P162 b_117 (ix x2_164)) fun (b_120 : Nat) =>
    gd (isk S b_120 20) <|
    gd (inb x3_255 (S b_120).2) <|
    gd (isk S b_116 20) <|
    gd (inb x3_255 (S b_116).2) <|
    nm (zset I255 b_116 (ix x3_255) (I255 b_120 (ix x3_255))) fun (I_125 : zT) =>
    nm (x3_255 + (1 : Int32)) fun (x3_126 : Int32) =>
    s255 I_125 x3_126)
def lX1_takes_184 (S : sT) (a0 : Nat) (a1 : Nat) (P162 : pT) (x2_164 : Int32) (j253 : zT → Option (pT × zT)) (s184 : zT → Int32 → Option (pT × zT)) (I184 : zT) (x3_184 : Int32) : Option (pT × zT) :=
  if (10 : Int32) ≤ x3_184 then (
    j253 I184)
  else (
    bd (P162 a1 4) fun (b_128 : Nat) =>
    gd (isk S b_128 27) <|
    gd (inb x2_164 (S b_128).2) <|
    bd (P162 b_128 (ix x2_164)) fun (b_131 : Nat) =>
    gd (isk S b_131 26) <|
    gd (inb x3_184 (S b_131).2) <|
    bd (P162 b_131 (ix x3_184)) fun (b_134 : Nat) =>
    bd (P162 a0 1) fun (b_135 : Nat) =>
    gd (isk S b_135 24) <|
    gd (inb x2_164 (S b_135).2) <|
    bd (P162 b_135 (ix x2_164)) fun (b_138 : Nat) =>
    bd (P162 a1 1) fun (b_139 : Nat) =>
    gd (isk S b_139 24) <|
    gd (inb x2_164 (S b_139).2) <|
    bd (P162 b_139 (ix x2_164)) fun (b_142 : Nat) =>
    gd (isk S b_142 20) <|
    gd (inb x3_184 (S b_142).2) <|
    gd (isk S b_138 20) <|
    gd (inb x3_184 (S b_138).2) <|
    nm (zset I184 b_138 (ix x3_184) (I184 b_142 (ix x3_184))) fun (I_147 : zT) =>
    bd (P162 a0 4) fun (b_148 : Nat) =>
    gd (isk S b_148 27) <|
    gd (inb x2_164 (S b_148).2) <|
    bd (P162 b_148 (ix x2_164)) fun (b_151 : Nat) =>
    gd (isk S b_151 26) <|
    gd (inb x3_184 (S b_151).2) <|
    bd (P162 b_151 (ix x3_184)) fun (b_154 : Nat) =>
    gd (isk S b_134 4) <|
    gd (isk S b_154 4) <|
    bd (fX3_is S P162 I_147 b_154 (I_147 b_134 0) (I_147 b_134 1) (I_147 b_134 2) (I_147 b_134 3)) fun (I_158 : zT) =>
    nm (x3_184 + (1 : Int32)) fun (x3_159 : Int32) =>
    s184 I_158 x3_159)
def lX1_takes_164 (S : sT) (a0 : Nat) (a1 : Nat) (P162 : pT) (j317 : zT → Option (pT × zT)) (s164 : zT → Int32 → Option (pT × zT)) (I164 : zT) (x2_164 : Int32) : Option (pT × zT) :=
  if (12 : Int32) ≤ x2_164 then (
    j317 I164)
  else (
    bd (P162 a0 6) fun (b_88 : Nat) =>
    bd (P162 a1 6) fun (b_89 : Nat) =>
    gd (isk S b_89 20) <|
    gd (inb x2_164 (S b_89).2) <|
    gd (isk S b_88 20) <|
    gd (inb x2_164 (S b_88).2) <|
    nm (zset I164 b_88 (ix x2_164) (I164 b_89 (ix x2_164))) fun (I_94 : zT) =>
    nj (fun (I253 : zT) =>
      nj (fun (I282 : zT) =>
        nj (fun (I311 : zT) =>
          nm (x2_164 + (1 : Int32)) fun (x2_95 : Int32) =>
          s164 I311 x2_95) fun j311 =>
        nj (it1 (lX1_takes_284 S a0 a1 P162 x2_164 j311) FU) fun k284 =>
        k284 I282 (0 : Int32)) fun j282 =>
      nj (it1 (lX1_takes_255 S a0 a1 P162 x2_164 j282) FU) fun k255 =>
      k255 I253 (0 : Int32)) fun j253 =>
    nj (it1 (lX1_takes_184 S a0 a1 P162 x2_164 j253) FU) fun k184 =>
    k184 I_94 (0 : Int32))
def lX1_takes_116 (S : sT) (a0 : Nat) (a1 : Nat) (x2_86 : Int32) (P_171 : pT) (x3_108 : Int32) (j150 : zT → Option (pT × zT)) (s116 : zT → Int32 → Option (pT × zT)) (I116 : zT) (x4_116 : Int32) : Option (pT × zT) :=
  if (3 : Int32) ≤ x4_116 then (
    j150 I116)
  else (
    bd (P_171 a0 10) fun (b_177 : Nat) =>
    gd (isk S b_177 30) <|
    gd (inb x2_86 (S b_177).2) <|
    bd (P_171 b_177 (ix x2_86)) fun (b_180 : Nat) =>
    gd (isk S b_180 28) <|
    gd (inb x3_108 (S b_180).2) <|
    bd (P_171 b_180 (ix x3_108)) fun (b_183 : Nat) =>
    bd (P_171 a1 10) fun (b_184 : Nat) =>
    gd (isk S b_184 30) <|
    gd (inb x2_86 (S b_184).2) <|
    bd (P_171 b_184 (ix x2_86)) fun (b_187 : Nat) =>
    gd (isk S b_187 28) <|
    gd (inb x3_108 (S b_187).2) <|
    bd (P_171 b_187 (ix x3_108)) fun (b_190 : Nat) =>
    gd (isk S b_190 21) <|
    gd (inb x4_116 (S b_190).2) <|
    gd (isk S b_183 21) <|
    gd (inb x4_116 (S b_183).2) <|
    gd (isb (I116 b_190 (ix x4_116))) <|
    nm (zset I116 b_183 (ix x4_116) (I116 b_190 (ix x4_116))) fun (I_196 : zT) =>
    nm (x4_116 + (1 : Int32)) fun (x4_197 : Int32) =>
    s116 I_196 x4_197)
def lX1_takes_108 (S : sT) (a0 : Nat) (a1 : Nat) (x2_86 : Int32) (P_171 : pT) (j156 : zT → Option (pT × zT)) (s108 : zT → Int32 → Option (pT × zT)) (I108 : zT) (x3_108 : Int32) : Option (pT × zT) :=
  if (3 : Int32) ≤ x3_108 then (
    j156 I108)
  else (
    nj (fun (I150 : zT) =>
      nm (x3_108 + (1 : Int32)) fun (x3_175 : Int32) =>
      s108 I150 x3_175) fun j150 =>
    nj (it1 (lX1_takes_116 S a0 a1 x2_86 P_171 x3_108 j150) FU) fun k116 =>
    k116 I108 (0 : Int32))
def lX1_takes_86 (S : sT) (a0 : Nat) (a1 : Nat) (j162 : pT → zT → Option (pT × zT)) (s86 : pT → zT → Int32 → Option (pT × zT)) (P86 : pT) (I86 : zT) (x2_86 : Int32) : Option (pT × zT) :=
  if (4 : Int32) ≤ x2_86 then (
    j162 P86 I86)
  else (
    bd (P86 a0 0) fun (b_161 : Nat) =>
    gd (isk S b_161 25) <|
    gd (inb x2_86 (S b_161).2) <|
    bd (P86 b_161 (ix x2_86)) fun (b_164 : Nat) =>
    bd (P86 a1 0) fun (b_165 : Nat) =>
    gd (isk S b_165 25) <|
    gd (inb x2_86 (S b_165).2) <|
    bd (P86 b_165 (ix x2_86)) fun (b_168 : Nat) =>
    gd (isk S b_164 3) <|
    bdp (fX2_takes S P86 I86 b_164 b_168) fun (P_171 : pT) (I_172 : zT) =>
    nj (fun (I156 : zT) =>
      nm (x2_86 + (1 : Int32)) fun (x2_173 : Int32) =>
      s86 P_171 I156 x2_173) fun j156 =>
    nj (it1 (lX1_takes_108 S a0 a1 x2_86 P_171 j156) FU) fun k108 =>
    k108 I_172 (0 : Int32))
def lX1_takes_18 (S : sT) (P : pT) (a0 : Nat) (a1 : Nat) (j44 : zT → Option (pT × zT)) (s18 : zT → Int32 → Option (pT × zT)) (I18 : zT) (x2_18 : Int32) : Option (pT × zT) :=
  if (I18 a0 19) ≤ x2_18 then (
    j44 I18)
  else (
    bd (P a0 5) fun (b_199 : Nat) =>
    bd (P a1 5) fun (b_200 : Nat) =>
    gd (isk S b_200 20) <|
    gd (inb x2_18 (S b_200).2) <|
    gd (isk S b_199 20) <|
    gd (inb x2_18 (S b_199).2) <|
    nm (zset I18 b_199 (ix x2_18) (I18 b_200 (ix x2_18))) fun (I_205 : zT) =>
    nm (x2_18 + (1 : Int32)) fun (x2_206 : Int32) =>
    s18 I_205 x2_206)
def fX1_takes (S : sT) (P : pT) (I : zT) (a0 : Nat) (a1 : Nat) : Option (pT × zT) :=
  gd (isk S a1 2) <|
  gd (isk S a0 2) <|
  nm (zset I a0 19 (I a1 19)) fun (I_3 : zT) =>
  nm (zset I_3 a0 20 (I_3 a1 20)) fun (I_4 : zT) =>
  nj (fun (I44 : zT) =>
    nm (zset I44 a0 14 (I44 a1 14)) fun (I_5 : zT) =>
    nm (zset I_5 a0 15 (I_5 a1 15)) fun (I_6 : zT) =>
    nm (zset I_6 a0 16 (I_6 a1 16)) fun (I_7 : zT) =>
    nm (zset I_7 a0 17 (I_7 a1 17)) fun (I_8 : zT) =>
    nm (zset I_8 a0 18 (I_8 a1 18)) fun (I_9 : zT) =>
    nj (fun (P162 : pT) (I162 : zT) =>
      nj (fun (I317 : zT) =>
        nj (fun (I362 : zT) =>
          nj (fun (I388 : zT) =>
            nj (fun (I452 : zT) =>
              nj (fun (I490 : zT) =>
                nj (it1 (lX1_takes_492 S a0 a1 P162) FU) fun k492 =>
                k492 I490 (0 : Int32)) fun j490 =>
              nj (it1 (lX1_takes_454 S a0 a1 P162 j490) FU) fun k454 =>
              k454 I452 (0 : Int32)) fun j452 =>
            nj (it1 (lX1_takes_390 S a0 a1 P162 j452) FU) fun k390 =>
            k390 I388 (0 : Int32)) fun j388 =>
          nj (it1 (lX1_takes_364 S a0 a1 P162 j388) FU) fun k364 =>
          k364 I362 (0 : Int32)) fun j362 =>
        nj (it1 (lX1_takes_319 S a0 a1 P162 j362) FU) fun k319 =>
        k319 I317 (0 : Int32)) fun j317 =>
      nj (it1 (lX1_takes_164 S a0 a1 P162 j317) FU) fun k164 =>
      k164 I162 (0 : Int32)) fun j162 =>
    nj (it2 (lX1_takes_86 S a0 a1 j162) FU) fun k86 =>
    k86 P I_9 (0 : Int32)) fun j44 =>
  nj (it1 (lX1_takes_18 S P a0 a1 j44) FU) fun k18 =>
  k18 I_4 (0 : Int32)
def fX2_plans (S : sT) (P : pT) (I : zT) (a0 : Nat) (a1 : Nat) : Option (pT × zT) :=
  gd (isk S a0 3) <|
  nm (pset P a0 2 (some a1)) fun (P_2 : pT) =>
  nm (zset I a0 8 (0 : Int32)) fun (I_3 : zT) =>
  if (I_3 a0 12) ≤ 0 then (
    some (P_2, I_3))
  else (
    if (I_3 a0 9) = 0 then (
      some (P_2, I_3))
    else (
      nm (zset I_3 a0 12 (0 : Int32)) fun (I_6 : zT) =>
      some (P_2, I_6)))
def fX2_settled (S : sT) (P : pT) (I : zT) (a0 : Nat) (a1 : Int32) : Option (Int32) :=
  gd (isk S a0 3) <|
  bd (P a0 1) fun (b_2 : Nat) =>
  gd (isk S b_2 20) <|
  gd (inb a1 (S b_2).2) <|
  if (3 : Int32) ≤ (I b_2 (ix a1)) then (
    if (I b_2 (ix a1)) = (3 : Int32) then (
      some (I a0 11))
    else (
      some (0 : Int32)))
  else (
    some (I b_2 (ix a1)))
def lX0_word_3 (S : sT) (P : pT) (a0 : Nat) (a1 : Int32) (s3 : zT → Int32 → Option (zT)) (I3 : zT) (x2_3 : Int32) : Option (zT) :=
  if x2_3 < 0 then (
    some I3)
  else (
    gd (isk S a0 1) <|
    bd (P a0 0) fun (b_3 : Nat) =>
    gd (isk S b_3 22) <|
    gd (inb (I3 a0 1) (S b_3).2) <|
    gd (isby (jb (jsr a1 x2_3))) <|
    nm (zset I3 b_3 (ix (I3 a0 1)) (jb (jsr a1 x2_3))) fun (I_7 : zT) =>
    nm (zset I_7 a0 1 ((I_7 a0 1) + (1 : Int32))) fun (I_8 : zT) =>
    nm (x2_3 + (-8 : Int32)) fun (x2_9 : Int32) =>
    s3 I_8 x2_9)
def fX0_word (S : sT) (P : pT) (I : zT) (a0 : Nat) (a1 : Int32) : Option (zT) :=
  nj (it1 (lX0_word_3 S P a0 a1) FU) fun k3 =>
  k3 I (24 : Int32)
def fX0_feed (S : sT) (P : pT) (I : zT) (a0 : Nat) (a1 : Int32) (a2 : Int32) (a3 : Int32) (a4 : Int32) (a5 : Int32) : Option (Int32 × zT) :=
  gd (isk S a0 1) <|
  if ((I a0 1) + (20 : Int32)) ≤ (400 : Int32) then (
    bd (fX0_word S P I a0 a1) fun (I_4 : zT) =>
    bd (fX0_word S P I_4 a0 a2) fun (I_6 : zT) =>
    bd (fX0_word S P I_6 a0 a3) fun (I_8 : zT) =>
    bd (fX0_word S P I_8 a0 a4) fun (I_10 : zT) =>
    bd (fX0_word S P I_10 a0 a5) fun (I_12 : zT) =>
    some ((I_12 a0 1), I_12))
  else (
    some ((-1 : Int32), I))
def fX0_isIn (a0 : Int32) (a1 : Int32) (a2 : Int32) : Option (Int32) :=
  nj (
    some (0 : Int32)) fun j14 =>
  if a0 < a1 then (
    j14)
  else (
    if a2 < a0 then (
      j14)
    else (
      some (1 : Int32)))
def fX0_end (S : sT) (P : pT) (I : zT) (a0 : Nat) (a1 : Int32) : Option (Int32 × zT) :=
  gd (isk S a0 1) <|
  bd (fX0_isIn a1 (0 : Int32) (I a0 1)) fun (r_3 : Int32) =>
  if r_3 = 0 then (
    some ((0 : Int32), I))
  else (
    nm (zset I a0 1 a1) fun (I_5 : zT) =>
    some ((1 : Int32), I_5))
def fX0_isThree (S : sT) (P : pT) (I : zT) (a0 : Nat) (a1 : Int32) : Option (Int32) :=
  gd (isk S a0 1) <|
  bd (P a0 4) fun (b_2 : Nat) =>
  gd (isk S b_2 2) <|
  bd (fX0_isIn a1 (0 : Int32) ((I b_2 15) - (1 : Int32))) fun (r_5 : Int32) =>
  gd (isb r_5) <|
  some r_5
def fX0_fault (S : sT) (P : pT) (I : zT) (a0 : Nat) (a1 : Int32) : Option (Int32) :=
  if a1 = 0 then (
    gd (isk S a0 1) <|
    some (I a0 2))
  else (
    if a1 = (1 : Int32) then (
      gd (isk S a0 1) <|
      some (I a0 3))
    else (
      some (-1 : Int32)))
def fX0_state (S : sT) (P : pT) (I : zT) (a0 : Nat) (a1 : Int32) : Option (Int32 × zT) :=
  gd (isk S a0 1) <|
  bd (P a0 4) fun (b_2 : Nat) =>
  gd (isk S b_2 2) <|
  nm (I b_2 14) fun (x2_4 : Int32) =>
  nm (zset I b_2 14 a1) fun (I_5 : zT) =>
  some (x2_4, I_5)
def fX0_isFact (a0 : Int32) : Option (Int32) :=
  bd (fX0_isIn a0 (0 : Int32) (9 : Int32)) fun (r_2 : Int32) =>
  gd (isb r_2) <|
  some r_2
def fX0_fact (S : sT) (P : pT) (I : zT) (a0 : Nat) (a1 : Int32) (a2 : Int32) : Option (Int32 × zT) :=
  bd (fX0_isFact a1) fun (r_2 : Int32) =>
  if r_2 = 0 then (
    some ((0 : Int32), I))
  else (
    gd (isk S a0 1) <|
    bd (P a0 4) fun (b_5 : Nat) =>
    gd (isk S b_5 2) <|
    bd (P b_5 8) fun (b_7 : Nat) =>
    gd (isk S b_7 21) <|
    gd (inb a1 (S b_7).2) <|
    gd (isb a2) <|
    nm (zset I b_7 (ix a1) a2) fun (I_11 : zT) =>
    some ((1 : Int32), I_11))
def fX0_isOne (S : sT) (P : pT) (I : zT) (a0 : Nat) (a1 : Int32) : Option (Int32) :=
  gd (isk S a0 1) <|
  bd (P a0 4) fun (b_2 : Nat) =>
  gd (isk S b_2 2) <|
  bd (fX0_isIn a1 (0 : Int32) (((3 : Int32) * (I b_2 15)) - (1 : Int32))) fun (r_5 : Int32) =>
  gd (isb r_5) <|
  some r_5
def fX0_trust (S : sT) (P : pT) (I : zT) (a0 : Nat) (a1 : Int32) (a2 : Int32) (a3 : Int32) : Option (Int32 × zT) :=
  gd (isk S a0 1) <|
  bd (fX0_isOne S P I a0 a1) fun (r_3 : Int32) =>
  if r_3 = 0 then (
    some ((0 : Int32), I))
  else (
    bd (fX0_isThree S P I a0 a2) fun (r_6 : Int32) =>
    if r_6 = 0 then (
      some ((0 : Int32), I))
    else (
      bd (P a0 4) fun (b_8 : Nat) =>
      gd (isk S b_8 2) <|
      bd (P b_8 7) fun (b_10 : Nat) =>
      gd (isk S b_10 28) <|
      gd (inb a1 (S b_10).2) <|
      bd (P b_10 (ix a1)) fun (b_13 : Nat) =>
      gd (isk S b_13 21) <|
      gd (inb a2 (S b_13).2) <|
      gd (isb a3) <|
      nm (zset I b_13 (ix a2) a3) fun (I_17 : zT) =>
      some ((1 : Int32), I_17)))
def lX0_minutes_29 (S : sT) (P : pT) (a1 : Int32) (b_5 : Nat) (j47 : zT → Option (Int32 × zT)) (s29 : zT → Int32 → Option (Int32 × zT)) (I29 : zT) (x2_29 : Int32) : Option (Int32 × zT) :=
  if a1 ≤ x2_29 then (
    j47 I29)
  else (
    bd (fX1_aMinute S P I29 b_5) fun (I_10 : zT) =>
    nm (x2_29 + (1 : Int32)) fun (x2_11 : Int32) =>
    s29 I_10 x2_11)
def fX0_minutes (S : sT) (P : pT) (I : zT) (a0 : Nat) (a1 : Int32) : Option (Int32 × zT) :=
  bd (fX0_isIn a1 (1 : Int32) (1000 : Int32)) fun (r_2 : Int32) =>
  if r_2 = 0 then (
    some ((-1 : Int32), I))
  else (
    gd (isk S a0 1) <|
    bd (P a0 4) fun (b_5 : Nat) =>
    gd (isk S b_5 2) <|
    if ((I b_5 16) + a1) ≤ (99999 : Int32) then (
      nj (fun (I47 : zT) =>
        some ((I47 b_5 16), I47)) fun j47 =>
      nj (it1 (lX0_minutes_29 S P a1 b_5 j47) FU) fun k29 =>
      k29 I (0 : Int32))
    else (
      some ((-1 : Int32), I)))
def fX0_isThing (a0 : Int32) : Option (Int32) :=
  bd (fX0_isIn a0 (0 : Int32) (2 : Int32)) fun (r_2 : Int32) =>
  gd (isb r_2) <|
  some r_2
def fX0_where (S : sT) (P : pT) (I : zT) (a0 : Nat) (a1 : Int32) (a2 : Int32) : Option (Int32) :=
  gd (isk S a0 1) <|
  bd (fX0_isThree S P I a0 a1) fun (r_3 : Int32) =>
  nj (
    some (-1 : Int32)) fun j32 =>
  if r_3 = 0 then (
    j32)
  else (
    bd (fX0_isThing a2) fun (r_6 : Int32) =>
    if r_6 = 0 then (
      j32)
    else (
      bd (P a0 4) fun (b_8 : Nat) =>
      gd (isk S b_8 2) <|
      bd (P b_8 0) fun (b_10 : Nat) =>
      gd (isk S b_10 25) <|
      gd (inb a1 (S b_10).2) <|
      bd (P b_10 (ix a1)) fun (b_13 : Nat) =>
      gd (isk S b_13 3) <|
      bd (P b_13 1) fun (b_15 : Nat) =>
      gd (isk S b_15 20) <|
      gd (inb a2 (S b_15).2) <|
      some (I b_15 (ix a2))))
def fX0_knows (S : sT) (P : pT) (I : zT) (a0 : Nat) (a1 : Int32) (a2 : Int32) : Option (Int32) :=
  gd (isk S a0 1) <|
  bd (fX0_isOne S P I a0 a1) fun (r_3 : Int32) =>
  nj (
    some (-1 : Int32)) fun j29 =>
  if r_3 = 0 then (
    j29)
  else (
    bd (fX0_isFact a2) fun (r_6 : Int32) =>
    if r_6 = 0 then (
      j29)
    else (
      bd (P a0 4) fun (b_8 : Nat) =>
      gd (isk S b_8 2) <|
      bd (P b_8 1) fun (b_10 : Nat) =>
      gd (isk S b_10 24) <|
      gd (inb a1 (S b_10).2) <|
      bd (P b_10 (ix a1)) fun (b_13 : Nat) =>
      gd (isk S b_13 20) <|
      gd (inb a2 (S b_13).2) <|
      some (I b_13 (ix a2))))
def fX0_origin (S : sT) (P : pT) (I : zT) (a0 : Nat) (a1 : Int32) (a2 : Int32) (a3 : Int32) : Option (Int32) :=
  gd (isk S a0 1) <|
  bd (fX0_isOne S P I a0 a1) fun (r_3 : Int32) =>
  if r_3 = 0 then (
    some (-1 : Int32))
  else (
    bd (fX0_isFact a2) fun (r_6 : Int32) =>
    if r_6 = 0 then (
      some (-1 : Int32))
    else (
      bd (P a0 4) fun (b_8 : Nat) =>
      gd (isk S b_8 2) <|
      bd (P b_8 1) fun (b_10 : Nat) =>
      gd (isk S b_10 24) <|
      gd (inb a1 (S b_10).2) <|
      bd (P b_10 (ix a1)) fun (b_13 : Nat) =>
      gd (isk S b_13 20) <|
      gd (inb a2 (S b_13).2) <|
      if (I b_13 (ix a2)) = 0 then (
        some (-1 : Int32))
      else (
        bd (P b_8 4) fun (b_17 : Nat) =>
        gd (isk S b_17 27) <|
        gd (inb a1 (S b_17).2) <|
        bd (P b_17 (ix a1)) fun (b_20 : Nat) =>
        gd (isk S b_20 26) <|
        gd (inb a2 (S b_20).2) <|
        bd (P b_20 (ix a2)) fun (b_23 : Nat) =>
        if a3 = (0 : Int32) then (
          gd (isk S b_23 4) <|
          some (I b_23 0))
        else
        if a3 = (1 : Int32) then (
          gd (isk S b_23 4) <|
          some (I b_23 1))
        else
        if a3 = (2 : Int32) then (
          gd (isk S b_23 4) <|
          some (I b_23 2))
        else
        if a3 = (3 : Int32) then (
          gd (isk S b_23 4) <|
          some (I b_23 3))
        else
        some (-1 : Int32))))
def fX0_noise (S : sT) (P : pT) (I : zT) (a0 : Nat) (a1 : Int32) : Option (Int32 × zT) :=
  gd (isk S a0 1) <|
  bd (P a0 4) fun (b_2 : Nat) =>
  gd (isk S b_2 2) <|
  bd (fX0_isIn a1 (I b_2 16) (99999 : Int32)) fun (r_5 : Int32) =>
  if r_5 = 0 then (
    some ((-1 : Int32), I))
  else (
    if (I b_2 19) = (20 : Int32) then (
      some ((-1 : Int32), I))
    else (
      bd (P b_2 5) fun (b_8 : Nat) =>
      gd (isk S b_8 20) <|
      gd (inb (I b_2 19) (S b_8).2) <|
      nm (zset I b_8 (ix (I b_2 19)) a1) fun (I_11 : zT) =>
      nm (zset I_11 b_2 19 ((I_11 b_2 19) + (1 : Int32))) fun (I_12 : zT) =>
      some (((I_12 b_2 19) - (1 : Int32)), I_12)))
def fX0_heard (S : sT) (P : pT) (I : zT) (a0 : Nat) (a1 : Int32) : Option (Int32) :=
  gd (isk S a0 1) <|
  bd (fX0_isOne S P I a0 a1) fun (r_3 : Int32) =>
  if r_3 = 0 then (
    some (-1 : Int32))
  else (
    bd (P a0 4) fun (b_5 : Nat) =>
    gd (isk S b_5 2) <|
    bd (P b_5 6) fun (b_7 : Nat) =>
    gd (isk S b_7 20) <|
    gd (inb a1 (S b_7).2) <|
    some (I b_7 (ix a1)))
def fX0_held (S : sT) (P : pT) (I : zT) (a0 : Nat) (a1 : Int32) (a2 : Int32) : Option (Int32) :=
  gd (isk S a0 1) <|
  bd (fX0_isOne S P I a0 a1) fun (r_3 : Int32) =>
  nj (
    some (-1 : Int32)) fun j29 =>
  if r_3 = 0 then (
    j29)
  else (
    bd (fX0_isThing a2) fun (r_6 : Int32) =>
    if r_6 = 0 then (
      j29)
    else (
      bd (P a0 4) fun (b_8 : Nat) =>
      gd (isk S b_8 2) <|
      bd (P b_8 2) fun (b_10 : Nat) =>
      gd (isk S b_10 24) <|
      gd (inb a1 (S b_10).2) <|
      bd (P b_10 (ix a1)) fun (b_13 : Nat) =>
      gd (isk S b_13 20) <|
      gd (inb a2 (S b_13).2) <|
      some (I b_13 (ix a2))))
def fX0_of (S : sT) (P : pT) (I : zT) (a0 : Nat) (a1 : Int32) (a2 : Int32) : Option (Int32) :=
  gd (isk S a0 1) <|
  bd (fX0_isThree S P I a0 a1) fun (r_3 : Int32) =>
  if r_3 = 0 then (
    some (-1 : Int32))
  else (
    bd (P a0 4) fun (b_5 : Nat) =>
    gd (isk S b_5 2) <|
    bd (P b_5 0) fun (b_7 : Nat) =>
    gd (isk S b_7 25) <|
    gd (inb a1 (S b_7).2) <|
    bd (P b_7 (ix a1)) fun (b_10 : Nat) =>
    if a2 = (0 : Int32) then (
      gd (isk S b_10 3) <|
      some (I b_10 3))
    else
    if a2 = (1 : Int32) then (
      gd (isk S b_10 3) <|
      some (I b_10 4))
    else
    if a2 = (2 : Int32) then (
      gd (isk S b_10 3) <|
      some (I b_10 5))
    else
    if a2 = (3 : Int32) then (
      gd (isk S b_10 3) <|
      some (I b_10 6))
    else
    if a2 = (4 : Int32) then (
      gd (isk S b_10 3) <|
      bd (P b_10 2) fun (b_21 : Nat) =>
      gd (isk S b_21 5) <|
      bd (fJ2_size S P I b_21) fun (r_24 : Int32) =>
      some r_24)
    else
    if a2 = (5 : Int32) then (
      gd (isk S b_10 3) <|
      some (I b_10 8))
    else
    if a2 = (6 : Int32) then (
      gd (isk S b_10 3) <|
      some (I b_10 12))
    else
    if a2 = (7 : Int32) then (
      gd (isk S b_10 3) <|
      some (I b_10 7))
    else
    some (-1 : Int32))
def fX0_book (S : sT) (P : pT) (I : zT) (a0 : Nat) (a1 : Int32) (a2 : Int32) : Option (Int32) :=
  gd (isk S a0 1) <|
  bd (P a0 4) fun (b_2 : Nat) =>
  gd (isk S b_2 2) <|
  bd (fX0_isIn a1 (0 : Int32) ((I b_2 17) - (1 : Int32))) fun (r_5 : Int32) =>
  nj (
    some (-1 : Int32)) fun j40 =>
  if r_5 = 0 then (
    j40)
  else (
    bd (fX0_isIn a2 (0 : Int32) (4 : Int32)) fun (r_8 : Int32) =>
    if r_8 = 0 then (
      j40)
    else (
      bd (P b_2 3) fun (b_10 : Nat) =>
      gd (isk S b_10 24) <|
      gd (inb a1 (S b_10).2) <|
      bd (P b_10 (ix a1)) fun (b_13 : Nat) =>
      gd (isk S b_13 20) <|
      gd (inb a2 (S b_13).2) <|
      some (I b_13 (ix a2))))
def fX0_stateBy (a0 : Int32) (a1 : Int32) (a2 : Int32) (a3 : Int32) : Option (Int32) :=
  some (((((72 : Int32) * a0) + ((24 : Int32) * a1)) + ((8 : Int32) * a2)) + a3)
def fX0_memberIn (a0 : Int32) (a1 : Int32) : Option (Int32) :=
  if a1 = 0 then (
    some (a0 / (72 : Int32)))
  else (
    if a1 = (1 : Int32) then (
      some (jr (a0 / (24 : Int32)) (3 : Int32)))
    else (
      some (jr (a0 / (8 : Int32)) (3 : Int32))))
def fX0_reaches (S : sT) (P : pT) (I : zT) (a0 : Nat) (a1 : Int32) (a2 : Int32) : Option (zT) :=
  gd (isk S a0 1) <|
  bd (P a0 7) fun (b_2 : Nat) =>
  gd (isk S b_2 20) <|
  gd (inb a1 (S b_2).2) <|
  nm (zset I b_2 (ix a1) (jmin (I b_2 (ix a1)) a2)) fun (I_5 : zT) =>
  some I_5
def lX0_acts_30 (S : sT) (P : pT) (a0 : Nat) (a1 : Int32) (a2 : Int32) (r_2 : Int32) (r_4 : Int32) (r_6 : Int32) (x7_7 : Int32) (j132 : zT → Option (zT)) (s30 : zT → Int32 → Option (zT)) (I30 : zT) (x8_30 : Int32) : Option (zT) :=
  if (3 : Int32) ≤ x8_30 then (
    j132 I30)
  else (
    nj (fun (I66 : zT) =>
      nj (fun (I96 : zT) =>
        nj (fun (I126 : zT) =>
          nm (x8_30 + (1 : Int32)) fun (x8_22 : Int32) =>
          s30 I126 x8_22) fun j126 =>
        if x8_30 = r_6 then (
          j126 I96)
        else (
          bd (fX0_stateBy r_2 r_4 x8_30 x7_7) fun (r_25 : Int32) =>
          gd (isk S a0 1) <|
          bd (P a0 7) fun (b_27 : Nat) =>
          gd (isk S b_27 20) <|
          gd (inb a1 (S b_27).2) <|
          bd (fX0_reaches S P I96 a0 r_25 ((I96 b_27 (ix a1)) + a2)) fun (I_31 : zT) =>
          j126 I_31)) fun j96 =>
      if x8_30 = r_4 then (
        j96 I66)
      else (
        bd (fX0_stateBy r_2 x8_30 r_6 x7_7) fun (r_34 : Int32) =>
        gd (isk S a0 1) <|
        bd (P a0 7) fun (b_36 : Nat) =>
        gd (isk S b_36 20) <|
        gd (inb a1 (S b_36).2) <|
        bd (fX0_reaches S P I66 a0 r_34 ((I66 b_36 (ix a1)) + a2)) fun (I_40 : zT) =>
        j96 I_40)) fun j66 =>
    if x8_30 = r_2 then (
      j66 I30)
    else (
      bd (fX0_stateBy x8_30 r_4 r_6 x7_7) fun (r_43 : Int32) =>
      gd (isk S a0 1) <|
      bd (P a0 7) fun (b_45 : Nat) =>
      gd (isk S b_45 20) <|
      gd (inb a1 (S b_45).2) <|
      bd (fX0_reaches S P I30 a0 r_43 ((I30 b_45 (ix a1)) + a2)) fun (I_49 : zT) =>
      j66 I_49))
def fX0_acts (S : sT) (P : pT) (I : zT) (a0 : Nat) (a1 : Int32) (a2 : Int32) (a3 : Int32) : Option (zT) :=
  bd (fX0_memberIn a1 (0 : Int32)) fun (r_2 : Int32) =>
  bd (fX0_memberIn a1 (1 : Int32)) fun (r_4 : Int32) =>
  bd (fX0_memberIn a1 (2 : Int32)) fun (r_6 : Int32) =>
  nm (jr a1 (8 : Int32)) fun (x7_7 : Int32) =>
  nj (fun (I132 : zT) =>
    bd (fX0_stateBy r_2 r_4 r_6 (x7_7 ||| (js (1 : Int32) r_2))) fun (r_9 : Int32) =>
    gd (isk S a0 1) <|
    bd (P a0 7) fun (b_11 : Nat) =>
    gd (isk S b_11 20) <|
    gd (inb a1 (S b_11).2) <|
    bd (fX0_reaches S P I132 a0 r_9 ((I132 b_11 (ix a1)) + a3)) fun (I_15 : zT) =>
    if ((jsr x7_7 r_6) &&& (1 : Int32)) = (1 : Int32) then (
      bd (fX0_stateBy r_2 r_4 r_6 (x7_7 ||| (js (1 : Int32) r_4))) fun (r_18 : Int32) =>
      bd (fX0_reaches S P I_15 a0 r_18 ((I_15 b_11 (ix a1)) + a3)) fun (I_20 : zT) =>
      some I_20)
    else (
      some I_15)) fun j132 =>
  nj (it1 (lX0_acts_30 S P a0 a1 a2 r_2 r_4 r_6 x7_7 j132) FU) fun k30 =>
  k30 I (0 : Int32)
def lX0_errandBy_116 (S : sT) (P : pT) (a0 : Nat) (b_2 : Nat) (I110 : zT) (j167 : Int32 → Option (Int32 × zT)) (s116 : Int32 → Int32 → Option (Int32 × zT)) (x6_116 : Int32) (x7_116 : Int32) : Option (Int32 × zT) :=
  if (216 : Int32) ≤ x7_116 then (
    j167 x6_116)
  else (
    bd (P a0 8) fun (b_26 : Nat) =>
    gd (isk S b_26 21) <|
    gd (inb x7_116 (S b_26).2) <|
    nj (fun (x6_161 : Int32) =>
      nm (x7_116 + (1 : Int32)) fun (x7_29 : Int32) =>
      s116 x6_161 x7_29) fun j161 =>
    if (I110 b_26 (ix x7_116)) = 0 then (
      nj (
        j161 x7_116) fun j157 =>
      if x6_116 = (-1 : Int32) then (
        j157)
      else (
        gd (inb x7_116 (S b_2).2) <|
        gd (inb x6_116 (S b_2).2) <|
        if (I110 b_2 (ix x6_116)) ≤ (I110 b_2 (ix x7_116)) then (
          j161 x6_116)
        else (
          j157)))
    else (
      j161 x6_116))
def lX0_errandBy_110 (S : sT) (P : pT) (a0 : Nat) (a3 : Int32) (a4 : Int32) (b_2 : Nat) (j185 : zT → Int32 → Option (Int32 × zT)) (s110 : zT → Option (Int32 × zT)) (I110 : zT) : Option (Int32 × zT) :=
  nj (fun (x6_167 : Int32) =>
    bd (fX0_memberIn x6_167 (2 : Int32)) fun (r_17 : Int32) =>
    if ((jsr (jr x6_167 (8 : Int32)) r_17) &&& (1 : Int32)) = (1 : Int32) then (
      j185 I110 x6_167)
    else (
      bd (P a0 8) fun (b_19 : Nat) =>
      gd (isk S b_19 21) <|
      gd (inb x6_167 (S b_19).2) <|
      nm (zset I110 b_19 (ix x6_167) (1 : Int32)) fun (I_22 : zT) =>
      bd (fX0_acts S P I_22 a0 x6_167 a3 a4) fun (I_24 : zT) =>
      s110 I_24)) fun j167 =>
  nj (it1 (lX0_errandBy_116 S P a0 b_2 I110 j167) FU) fun k116 =>
  k116 (-1 : Int32) (0 : Int32)
def lX0_errandBy_53 (S : sT) (P : pT) (a0 : Nat) (j84 : zT → Option (Int32 × zT)) (s53 : zT → Int32 → Option (Int32 × zT)) (I53 : zT) (x6_53 : Int32) : Option (Int32 × zT) :=
  if (216 : Int32) ≤ x6_53 then (
    j84 I53)
  else (
    gd (isk S a0 1) <|
    bd (P a0 7) fun (b_37 : Nat) =>
    gd (isk S b_37 20) <|
    gd (inb x6_53 (S b_37).2) <|
    nm (zset I53 b_37 (ix x6_53) (1000000 : Int32)) fun (I_40 : zT) =>
    bd (P a0 8) fun (b_41 : Nat) =>
    gd (isk S b_41 21) <|
    gd (inb x6_53 (S b_41).2) <|
    nm (zset I_40 b_41 (ix x6_53) (0 : Int32)) fun (I_44 : zT) =>
    nm (x6_53 + (1 : Int32)) fun (x6_45 : Int32) =>
    s53 I_44 x6_45)
def lX0_errandBy_6 (S : sT) (P : pT) (I : zT) (a0 : Nat) (a1 : Nat) (a2 : Int32) (j50 : Int32 → Option (Int32 × zT)) (s6 : Int32 → Int32 → Option (Int32 × zT)) (x5_6 : Int32) (x6_6 : Int32) : Option (Int32 × zT) :=
  if (3 : Int32) ≤ x6_6 then (
    j50 x5_6)
  else (
    gd (isk S a0 1) <|
    bd (P a0 4) fun (b_48 : Nat) =>
    gd (isk S b_48 2) <|
    bd (P b_48 1) fun (b_50 : Nat) =>
    gd (isk S a1 3) <|
    bd (fX2_person S P I a1 x6_6) fun (r_53 : Int32) =>
    gd (isk S b_50 24) <|
    gd (inb r_53 (S b_50).2) <|
    bd (P b_50 (ix r_53)) fun (b_56 : Nat) =>
    gd (isk S b_56 20) <|
    gd (inb a2 (S b_56).2) <|
    nj (fun (t1_41 : Int32) =>
      nm (x5_6 ||| t1_41) fun (x5_59 : Int32) =>
      nm (x6_6 + (1 : Int32)) fun (x6_60 : Int32) =>
      s6 x5_59 x6_60) fun j41 =>
    if (I b_56 (ix a2)) ≤ 0 then (
      j41 (0 : Int32))
    else (
      j41 (js (1 : Int32) x6_6)))
def fX0_errandBy (S : sT) (P : pT) (I : zT) (a0 : Nat) (a1 : Nat) (a2 : Int32) (a3 : Int32) (a4 : Int32) : Option (Int32 × zT) :=
  nj (fun (x5_50 : Int32) =>
    nj (fun (I84 : zT) =>
      gd (isk S a0 1) <|
      bd (P a0 7) fun (b_2 : Nat) =>
      gd (isk S a1 3) <|
      bd (fX2_settled S P I84 a1 (0 : Int32)) fun (r_5 : Int32) =>
      bd (fX2_settled S P I84 a1 (1 : Int32)) fun (r_7 : Int32) =>
      bd (fX2_settled S P I84 a1 (2 : Int32)) fun (r_9 : Int32) =>
      bd (fX0_stateBy r_5 r_7 r_9 x5_50) fun (r_11 : Int32) =>
      gd (isk S b_2 20) <|
      gd (inb r_11 (S b_2).2) <|
      nm (zset I84 b_2 (ix r_11) (0 : Int32)) fun (I_14 : zT) =>
      nj (fun (I185 : zT) (x6_185 : Int32) =>
        gd (inb x6_185 (S b_2).2) <|
        some (((I185 b_2 (ix x6_185)) + a4), I185)) fun j185 =>
      nj (it0 (lX0_errandBy_110 S P a0 a3 a4 b_2 j185) FU) fun k110 =>
      k110 I_14) fun j84 =>
    nj (it1 (lX0_errandBy_53 S P a0 j84) FU) fun k53 =>
    k53 I (0 : Int32)) fun j50 =>
  nj (it1 (lX0_errandBy_6 S P I a0 a1 a2 j50) FU) fun k6 =>
  k6 (0 : Int32) (0 : Int32)
def fX0_errand (S : sT) (P : pT) (I : zT) (a0 : Nat) (a1 : Int32) (a2 : Int32) (a3 : Int32) (a4 : Int32) : Option (Int32 × zT) :=
  gd (isk S a0 1) <|
  bd (fX0_isThree S P I a0 a1) fun (r_3 : Int32) =>
  if r_3 = 0 then (
    some ((-1 : Int32), I))
  else (
    bd (fX0_isThree S P I a0 a3) fun (r_6 : Int32) =>
    if r_6 = 0 then (
      some ((-1 : Int32), I))
    else (
      if a1 = a3 then (
        some ((-1 : Int32), I))
      else (
        bd (fX0_isFact a2) fun (r_10 : Int32) =>
        if r_10 = 0 then (
          some ((-1 : Int32), I))
        else (
          bd (fX0_isIn a4 (0 : Int32) (1 : Int32)) fun (r_13 : Int32) =>
          if r_13 = 0 then (
            some ((-1 : Int32), I))
          else (
            bd (P a0 4) fun (b_15 : Nat) =>
            gd (isk S b_15 2) <|
            bd (P b_15 0) fun (b_17 : Nat) =>
            gd (isk S b_17 25) <|
            gd (inb a3 (S b_17).2) <|
            bd (P b_17 (ix a3)) fun (b_20 : Nat) =>
            bd (P b_15 1) fun (b_21 : Nat) =>
            gd (isk S b_20 3) <|
            bd (fX2_settled S P I b_20 (1 : Int32)) fun (r_24 : Int32) =>
            bd (fX2_person S P I b_20 r_24) fun (r_26 : Int32) =>
            gd (isk S b_21 24) <|
            gd (inb r_26 (S b_21).2) <|
            bd (P b_21 (ix r_26)) fun (b_29 : Nat) =>
            gd (isk S b_29 20) <|
            gd (inb a2 (S b_29).2) <|
            if (I b_29 (ix a2)) ≤ 0 then (
              gd (inb a1 (S b_17).2) <|
              bd (P b_17 (ix a1)) fun (b_34 : Nat) =>
              if a4 = 0 then (
                gd (isk S b_34 3) <|
                bdp (fX0_errandBy S P I a0 b_34 a2 (I b_34 3) (1 : Int32)) fun (r_41 : Int32) (I_42 : zT) =>
                some (r_41, I_42))
              else (
                bdp (fX0_errandBy S P I a0 b_34 a2 (1 : Int32) (0 : Int32)) fun (r_37 : Int32) (I_38 : zT) =>
                some (r_37, I_38)))
            else (
              some ((0 : Int32), I)))))))
def fX0_talkBy (S : sT) (P : pT) (I : zT) (a0 : Nat) (a1 : Int32) : Option (Int32) :=
  gd (isk S a0 20) <|
  gd (inb (0 : Int32) (S a0).2) <|
  gd (inb (1 : Int32) (S a0).2) <|
  gd (inb (2 : Int32) (S a0).2) <|
  gd (inb (3 : Int32) (S a0).2) <|
  some (((((((((I a0 (ix (0 : Int32))) * (3 : Int32)) + (I a0 (ix (1 : Int32)))) * (3 : Int32)) + (I a0 (ix (2 : Int32)))) * (3 : Int32)) + (I a0 (ix (3 : Int32)))) * (64 : Int32)) + a1)
def fX0_comesTo (S : sT) (P : pT) (I : zT) (a0 : Nat) (a1 : Int32) (a2 : Int32) : Option (zT) :=
  gd (isk S a0 1) <|
  bd (P a0 9) fun (b_2 : Nat) =>
  gd (isk S b_2 20) <|
  gd (inb a1 (S b_2).2) <|
  if (I b_2 (ix a1)) = (-1 : Int32) then (
    nm (zset I b_2 (ix a1) a2) fun (I_6 : zT) =>
    bd (P a0 10) fun (b_7 : Nat) =>
    gd (isk S b_7 20) <|
    gd (inb (I_6 a0 11) (S b_7).2) <|
    nm (zset I_6 b_7 (ix (I_6 a0 11)) a1) fun (I_10 : zT) =>
    nm (zset I_10 a0 11 ((I_10 a0 11) + (1 : Int32))) fun (I_11 : zT) =>
    some I_11)
  else (
    some I)
def lX0_talksOn_163 (S : sT) (P : pT) (a0 : Nat) (a1 : Int32) (x2_1 : Int32) (b_5 : Nat) (j212 : zT → Option (zT)) (s163 : zT → Int32 → Option (zT)) (I163 : zT) (x5_163 : Int32) : Option (zT) :=
  if (2 : Int32) ≤ x5_163 then (
    j212 I163)
  else (
    gd (inb ((2 : Int32) * x5_163) (S b_5).2) <|
    bd (fX0_talkBy S P I163 b_5 (x2_1 ||| (js (1 : Int32) (((3 : Int32) * x5_163) + (I163 b_5 (ix ((2 : Int32) * x5_163))))))) fun (r_13 : Int32) =>
    bd (P a0 9) fun (b_14 : Nat) =>
    gd (isk S b_14 20) <|
    gd (inb a1 (S b_14).2) <|
    bd (fX0_comesTo S P I163 a0 r_13 ((I163 b_14 (ix a1)) + (1 : Int32))) fun (I_18 : zT) =>
    nm (x5_163 + (1 : Int32)) fun (x5_19 : Int32) =>
    s163 I_18 x5_19)
def lX0_talksOn_128 (S : sT) (P : pT) (a0 : Nat) (a1 : Int32) (x2_1 : Int32) (s128 : zT → Int32 → Option (zT)) (I128 : zT) (x4_128 : Int32) : Option (zT) :=
  if (2 : Int32) ≤ x4_128 then (
    some I128)
  else (
    gd (isk S a0 1) <|
    bd (P a0 12) fun (b_5 : Nat) =>
    gd (isk S b_5 20) <|
    gd (inb (((2 : Int32) * x4_128) + (1 : Int32)) (S b_5).2) <|
    nj (fun (I212 : zT) =>
      nm (x4_128 + (1 : Int32)) fun (x4_8 : Int32) =>
      s128 I212 x4_8) fun j212 =>
    if ((jsr x2_1 (((3 : Int32) * x4_128) + (I128 b_5 (ix (((2 : Int32) * x4_128) + (1 : Int32)))))) &&& (1 : Int32)) = 0 then (
      j212 I128)
    else (
      nj (it1 (lX0_talksOn_163 S P a0 a1 x2_1 b_5 j212) FU) fun k163 =>
      k163 I128 (0 : Int32)))
def lX0_talksOn_59 (S : sT) (P : pT) (a0 : Nat) (a1 : Int32) (x2_1 : Int32) (x4_41 : Int32) (b_22 : Nat) (x5_25 : Int32) (j110 : zT → Option (zT)) (s59 : zT → Int32 → Option (zT)) (I59 : zT) (x6_59 : Int32) : Option (zT) :=
  if (3 : Int32) ≤ x6_59 then (
    j110 I59)
  else (
    nj (fun (I104 : zT) =>
      nm (x6_59 + (1 : Int32)) fun (x6_29 : Int32) =>
      s59 I104 x6_29) fun j104 =>
    if x6_59 = x5_25 then (
      j104 I59)
    else (
      nm (zset I59 b_22 (ix x4_41) x6_59) fun (I_31 : zT) =>
      bd (fX0_talkBy S P I_31 b_22 x2_1) fun (r_33 : Int32) =>
      bd (P a0 9) fun (b_34 : Nat) =>
      gd (isk S b_34 20) <|
      gd (inb a1 (S b_34).2) <|
      bd (fX0_comesTo S P I_31 a0 r_33 ((I_31 b_34 (ix a1)) + (1 : Int32))) fun (I_38 : zT) =>
      j104 I_38))
def lX0_talksOn_41 (S : sT) (P : pT) (a0 : Nat) (a1 : Int32) (x2_1 : Int32) (j125 : zT → Option (zT)) (s41 : zT → Int32 → Option (zT)) (I41 : zT) (x4_41 : Int32) : Option (zT) :=
  if (4 : Int32) ≤ x4_41 then (
    j125 I41)
  else (
    gd (isk S a0 1) <|
    bd (P a0 12) fun (b_22 : Nat) =>
    gd (isk S b_22 20) <|
    gd (inb x4_41 (S b_22).2) <|
    nm (I41 b_22 (ix x4_41)) fun (x5_25 : Int32) =>
    nj (fun (I110 : zT) =>
      nm (zset I110 b_22 (ix x4_41) x5_25) fun (I_26 : zT) =>
      nm (x4_41 + (1 : Int32)) fun (x4_27 : Int32) =>
      s41 I_26 x4_27) fun j110 =>
    nj (it1 (lX0_talksOn_59 S P a0 a1 x2_1 x4_41 b_22 x5_25 j110) FU) fun k59 =>
    k59 I41 (0 : Int32))
def lX0_talksOn_13 (S : sT) (P : pT) (a0 : Nat) (j38 : zT → Option (zT)) (s13 : zT → Int32 → Int32 → Option (zT)) (I13 : zT) (x3_13 : Int32) (x4_13 : Int32) : Option (zT) :=
  if x4_13 < 0 then (
    j38 I13)
  else (
    gd (isk S a0 1) <|
    bd (P a0 12) fun (b_41 : Nat) =>
    gd (isk S b_41 20) <|
    gd (inb x4_13 (S b_41).2) <|
    nm (zset I13 b_41 (ix x4_13) (jr x3_13 (3 : Int32))) fun (I_44 : zT) =>
    nm (x3_13 / (3 : Int32)) fun (x3_45 : Int32) =>
    nm (x4_13 + (-1 : Int32)) fun (x4_46 : Int32) =>
    s13 I_44 x3_45 x4_46)
def fX0_talksOn (S : sT) (P : pT) (I : zT) (a0 : Nat) (a1 : Int32) : Option (zT) :=
  nm (jr a1 (64 : Int32)) fun (x2_1 : Int32) =>
  nm (a1 / (64 : Int32)) fun (x3_2 : Int32) =>
  nj (fun (I38 : zT) =>
    nj (fun (I125 : zT) =>
      nj (it1 (lX0_talksOn_128 S P a0 a1 x2_1) FU) fun k128 =>
      k128 I125 (0 : Int32)) fun j125 =>
    nj (it1 (lX0_talksOn_41 S P a0 a1 x2_1 j125) FU) fun k41 =>
    k41 I38 (0 : Int32)) fun j38 =>
  nj (it2 (lX0_talksOn_13 S P a0 j38) FU) fun k13 =>
  k13 I x3_2 (3 : Int32)
def lX0_talk_211 (S : sT) (P : pT) (a0 : Nat) (j235 : zT → Int32 → Option (Int32 × zT)) (s211 : zT → Int32 → Option (Int32 × zT)) (I211 : zT) (x5_211 : Int32) : Option (Int32 × zT) :=
  if (I211 a0 11) ≤ x5_211 then (
    some ((-1 : Int32), I211))
  else (
    bd (P a0 10) fun (b_26 : Nat) =>
    gd (isk S b_26 20) <|
    gd (inb x5_211 (S b_26).2) <|
    if (jr (I211 b_26 (ix x5_211)) (64 : Int32)) = (63 : Int32) then (
      j235 I211 x5_211)
    else (
      bd (fX0_talksOn S P I211 a0 (I211 b_26 (ix x5_211))) fun (I_31 : zT) =>
      nm (x5_211 + (1 : Int32)) fun (x5_32 : Int32) =>
      s211 I_31 x5_32))
def lX0_talk_141 (S : sT) (P : pT) (a0 : Nat) (a1 : Int32) (a2 : Int32) (j194 : zT → Option (Int32 × zT)) (s141 : zT → Int32 → Option (Int32 × zT)) (I141 : zT) (x5_141 : Int32) : Option (Int32 × zT) :=
  if (4 : Int32) ≤ x5_141 then (
    j194 I141)
  else (
    bd (P a0 12) fun (b_34 : Nat) =>
    bd (P a0 4) fun (b_35 : Nat) =>
    gd (isk S b_35 2) <|
    bd (P b_35 0) fun (b_37 : Nat) =>
    nj (fun (t3_171 : Int32) =>
      gd (isk S b_37 25) <|
      gd (inb t3_171 (S b_37).2) <|
      bd (P b_37 (ix t3_171)) fun (b_40 : Nat) =>
      nj (fun (t3_184 : Int32) =>
        gd (isk S b_40 3) <|
        bd (fX2_settled S P I141 b_40 t3_184) fun (r_43 : Int32) =>
        gd (isk S b_34 20) <|
        gd (inb x5_141 (S b_34).2) <|
        nm (zset I141 b_34 (ix x5_141) r_43) fun (I_46 : zT) =>
        nm (x5_141 + (1 : Int32)) fun (x5_47 : Int32) =>
        s141 I_46 x5_47) fun j184 =>
      if (jr x5_141 (2 : Int32)) = 0 then (
        j184 (1 : Int32))
      else (
        j184 (2 : Int32))) fun j171 =>
    if (2 : Int32) ≤ x5_141 then (
      j171 a2)
    else (
      j171 a1))
def lX0_talk_111 (S : sT) (P : pT) (a0 : Nat) (j133 : zT → Option (Int32 × zT)) (s111 : zT → Int32 → Option (Int32 × zT)) (I111 : zT) (x5_111 : Int32) : Option (Int32 × zT) :=
  if (5184 : Int32) ≤ x5_111 then (
    j133 I111)
  else (
    bd (P a0 9) fun (b_51 : Nat) =>
    gd (isk S b_51 20) <|
    gd (inb x5_111 (S b_51).2) <|
    nm (zset I111 b_51 (ix x5_111) (-1 : Int32)) fun (I_54 : zT) =>
    nm (x5_111 + (1 : Int32)) fun (x5_55 : Int32) =>
    s111 I_54 x5_55)
def lX0_talk_36 (S : sT) (P : pT) (I : zT) (a0 : Nat) (a1 : Int32) (a2 : Int32) (a3 : Int32) (j101 : Int32 → Option (Int32 × zT)) (s36 : Int32 → Int32 → Option (Int32 × zT)) (x4_36 : Int32) (x5_36 : Int32) : Option (Int32 × zT) :=
  if (6 : Int32) ≤ x5_36 then (
    j101 x4_36)
  else (
    bd (P a0 4) fun (b_57 : Nat) =>
    gd (isk S b_57 2) <|
    bd (P b_57 1) fun (b_59 : Nat) =>
    bd (P b_57 0) fun (b_60 : Nat) =>
    nj (fun (t3_70 : Int32) =>
      gd (isk S b_60 25) <|
      gd (inb t3_70 (S b_60).2) <|
      bd (P b_60 (ix t3_70)) fun (b_63 : Nat) =>
      gd (isk S b_63 3) <|
      bd (fX2_person S P I b_63 (jr x5_36 (3 : Int32))) fun (r_66 : Int32) =>
      gd (isk S b_59 24) <|
      gd (inb r_66 (S b_59).2) <|
      bd (P b_59 (ix r_66)) fun (b_69 : Nat) =>
      gd (isk S b_69 20) <|
      gd (inb a3 (S b_69).2) <|
      nj (fun (t1_92 : Int32) =>
        nm (x4_36 ||| t1_92) fun (x4_72 : Int32) =>
        nm (x5_36 + (1 : Int32)) fun (x5_73 : Int32) =>
        s36 x4_72 x5_73) fun j92 =>
      if (I b_69 (ix a3)) ≤ 0 then (
        j92 (0 : Int32))
      else (
        j92 (js (1 : Int32) x5_36))) fun j70 =>
    if (3 : Int32) ≤ x5_36 then (
      j70 a2)
    else (
      j70 a1))
def fX0_talk (S : sT) (P : pT) (I : zT) (a0 : Nat) (a1 : Int32) (a2 : Int32) (a3 : Int32) : Option (Int32 × zT) :=
  gd (isk S a0 1) <|
  bd (fX0_isThree S P I a0 a1) fun (r_3 : Int32) =>
  if r_3 = 0 then (
    some ((-1 : Int32), I))
  else (
    bd (fX0_isThree S P I a0 a2) fun (r_6 : Int32) =>
    if r_6 = 0 then (
      some ((-1 : Int32), I))
    else (
      if a1 = a2 then (
        some ((-1 : Int32), I))
      else (
        bd (fX0_isFact a3) fun (r_10 : Int32) =>
        if r_10 = 0 then (
          some ((-1 : Int32), I))
        else (
          nj (fun (x4_101 : Int32) =>
            if x4_101 = 0 then (
              some ((-1 : Int32), I))
            else (
              nj (fun (I133 : zT) =>
                nm (zset I133 a0 11 (0 : Int32)) fun (I_13 : zT) =>
                nj (fun (I194 : zT) =>
                  bd (P a0 12) fun (b_14 : Nat) =>
                  bd (fX0_talkBy S P I194 b_14 x4_101) fun (r_16 : Int32) =>
                  bd (fX0_comesTo S P I194 a0 r_16 (0 : Int32)) fun (I_18 : zT) =>
                  nj (fun (I235 : zT) (x5_235 : Int32) =>
                    bd (P a0 9) fun (b_19 : Nat) =>
                    bd (P a0 10) fun (b_20 : Nat) =>
                    gd (isk S b_20 20) <|
                    gd (inb x5_235 (S b_20).2) <|
                    gd (isk S b_19 20) <|
                    gd (inb (I235 b_20 (ix x5_235)) (S b_19).2) <|
                    some ((I235 b_19 (ix (I235 b_20 (ix x5_235)))), I235)) fun j235 =>
                  nj (it1 (lX0_talk_211 S P a0 j235) FU) fun k211 =>
                  k211 I_18 (0 : Int32)) fun j194 =>
                nj (it1 (lX0_talk_141 S P a0 a1 a2 j194) FU) fun k141 =>
                k141 I_13 (0 : Int32)) fun j133 =>
              nj (it1 (lX0_talk_111 S P a0 j133) FU) fun k111 =>
              k111 I (0 : Int32))) fun j101 =>
          nj (it1 (lX0_talk_36 S P I a0 a1 a2 a3 j101) FU) fun k36 =>
          k36 (0 : Int32) (0 : Int32)))))
def fX0_danger (S : sT) (P : pT) (I : zT) (a0 : Nat) (a1 : Int32) (a2 : Int32) (a3 : Int32) (a4 : Int32) : Option (Int32 × zT) :=
  bd (fX0_isIn a1 (0 : Int32) (11 : Int32)) fun (r_2 : Int32) =>
  if r_2 = 0 then (
    some ((0 : Int32), I))
  else (
    bd (fX0_isIn a2 (0 : Int32) (2 : Int32)) fun (r_5 : Int32) =>
    if r_5 = 0 then (
      some ((0 : Int32), I))
    else (
      bd (fX0_isThing a3) fun (r_8 : Int32) =>
      if r_8 = 0 then (
        some ((0 : Int32), I))
      else (
        bd (fX0_isIn a4 (0 : Int32) (9 : Int32)) fun (r_11 : Int32) =>
        if r_11 = 0 then (
          some ((0 : Int32), I))
        else (
          gd (isk S a0 1) <|
          bd (P a0 4) fun (b_14 : Nat) =>
          gd (isk S b_14 2) <|
          bd (P b_14 9) fun (b_16 : Nat) =>
          gd (isk S b_16 29) <|
          gd (inb a1 (S b_16).2) <|
          bd (P b_16 (ix a1)) fun (b_19 : Nat) =>
          gd (isk S b_19 24) <|
          gd (inb a2 (S b_19).2) <|
          bd (P b_19 (ix a2)) fun (b_22 : Nat) =>
          gd (isk S b_22 20) <|
          gd (inb a3 (S b_22).2) <|
          nm (zset I b_22 (ix a3) a4) fun (I_25 : zT) =>
          some ((1 : Int32), I_25)))))
def fX0_memberOf (a0 : Int32) (a1 : Int32) : Option (Int32) :=
  if a1 = 0 then (
    some (a0 / (9 : Int32)))
  else (
    if a1 = (1 : Int32) then (
      some (jr (a0 / (3 : Int32)) (3 : Int32)))
    else (
      some (jr a0 (3 : Int32))))
def lX0_changes_4 (a0 : Int32) (a1 : Int32) (s4 : Int32 → Int32 → Option (Int32)) (x2_4 : Int32) (x3_4 : Int32) : Option (Int32) :=
  if (3 : Int32) ≤ x3_4 then (
    some x2_4)
  else (
    bd (fX0_memberOf a0 x3_4) fun (r_3 : Int32) =>
    bd (fX0_memberOf a1 x3_4) fun (r_5 : Int32) =>
    nj (fun (t1_28 : Int32) =>
      nm (x2_4 + t1_28) fun (x2_6 : Int32) =>
      nm (x3_4 + (1 : Int32)) fun (x3_7 : Int32) =>
      s4 x2_6 x3_7) fun j28 =>
    if r_3 = r_5 then (
      j28 (0 : Int32))
    else (
      j28 (1 : Int32)))
def fX0_changes (a0 : Int32) (a1 : Int32) : Option (Int32) :=
  nj (it1 (lX0_changes_4 a0 a1) FU) fun k4 =>
  k4 (0 : Int32) (0 : Int32)
def lX0_dangerAt_5 (S : sT) (P : pT) (I : zT) (a0 : Nat) (a1 : Int32) (a2 : Int32) (s5 : Int32 → Int32 → Option (Int32)) (x3_5 : Int32) (x4_5 : Int32) : Option (Int32) :=
  if (3 : Int32) ≤ x4_5 then (
    some x3_5)
  else (
    gd (isk S a0 1) <|
    bd (P a0 4) fun (b_3 : Nat) =>
    gd (isk S b_3 2) <|
    bd (P b_3 9) fun (b_5 : Nat) =>
    gd (isk S b_5 29) <|
    gd (inb a1 (S b_5).2) <|
    bd (P b_5 (ix a1)) fun (b_8 : Nat) =>
    bd (fX0_memberOf a2 x4_5) fun (r_10 : Int32) =>
    gd (isk S b_8 24) <|
    gd (inb r_10 (S b_8).2) <|
    bd (P b_8 (ix r_10)) fun (b_13 : Nat) =>
    gd (isk S b_13 20) <|
    gd (inb x4_5 (S b_13).2) <|
    nm (x3_5 + (I b_13 (ix x4_5))) fun (x3_16 : Int32) =>
    nm (x4_5 + (1 : Int32)) fun (x4_17 : Int32) =>
    s5 x3_16 x4_17)
def fX0_dangerAt (S : sT) (P : pT) (I : zT) (a0 : Nat) (a1 : Int32) (a2 : Int32) : Option (Int32) :=
  nj (it1 (lX0_dangerAt_5 S P I a0 a1 a2) FU) fun k5 =>
  k5 (0 : Int32) (0 : Int32)
def lX0_way_235 (S : sT) (P : pT) (a0 : Nat) (a2 : Int32) (I162 : zT) (x4_223 : Int32) (x5_223 : Int32) (j287 : Int32 → Option (Int32 × zT)) (s235 : Int32 → Option (Int32 × zT)) (x6_235 : Int32) : Option (Int32 × zT) :=
  bd (fX0_changes x4_223 x6_235) fun (r_12 : Int32) =>
  gd (isk S a0 1) <|
  bd (P a0 13) fun (b_14 : Nat) =>
  gd (isk S b_14 24) <|
  gd (inb x5_223 (S b_14).2) <|
  bd (P b_14 (ix x5_223)) fun (b_17 : Nat) =>
  gd (isk S b_17 20) <|
  gd (inb x6_235 (S b_17).2) <|
  gd (inb (x5_223 - (1 : Int32)) (S b_14).2) <|
  bd (P b_14 (ix (x5_223 - (1 : Int32)))) fun (b_21 : Nat) =>
  gd (isk S b_21 20) <|
  gd (inb x4_223 (S b_21).2) <|
  bd (fX0_dangerAt S P I162 a0 (x5_223 - (1 : Int32)) x4_223) fun (r_25 : Int32) =>
  if ((a2 * r_12) + (I162 b_17 (ix x6_235))) = ((I162 b_21 (ix x4_223)) - r_25) then (
    j287 x6_235)
  else (
    nm (x6_235 + (1 : Int32)) fun (x6_27 : Int32) =>
    s235 x6_27)
def lX0_way_223 (S : sT) (P : pT) (a0 : Nat) (a2 : Int32) (a3 : Int32) (I162 : zT) (s223 : Int32 → Int32 → Option (Int32 × zT)) (x4_223 : Int32) (x5_223 : Int32) : Option (Int32 × zT) :=
  if (a3 - (10 : Int32)) < x5_223 then (
    some (x4_223, I162))
  else (
    nj (fun (x6_287 : Int32) =>
      nm (x5_223 + (1 : Int32)) fun (x5_10 : Int32) =>
      s223 x6_287 x5_10) fun j287 =>
    nj (it0 (lX0_way_235 S P a0 a2 I162 x4_223 x5_223 j287) FU) fun k235 =>
    k235 (0 : Int32))
def lX0_way_168 (S : sT) (P : pT) (a0 : Nat) (I162 : zT) (j206 : Int32 → Option (Int32 × zT)) (s168 : Int32 → Int32 → Option (Int32 × zT)) (x4_168 : Int32) (x5_168 : Int32) : Option (Int32 × zT) :=
  if (27 : Int32) ≤ x5_168 then (
    j206 x4_168)
  else (
    gd (isk S a0 1) <|
    bd (P a0 13) fun (b_37 : Nat) =>
    gd (isk S b_37 24) <|
    gd (inb (0 : Int32) (S b_37).2) <|
    bd (P b_37 (ix (0 : Int32))) fun (b_40 : Nat) =>
    gd (isk S b_40 20) <|
    gd (inb x5_168 (S b_40).2) <|
    gd (inb x4_168 (S b_40).2) <|
    nj (fun (x4_200 : Int32) =>
      nm (x5_168 + (1 : Int32)) fun (x5_44 : Int32) =>
      s168 x4_200 x5_44) fun j200 =>
    if (I162 b_40 (ix x4_168)) ≤ (I162 b_40 (ix x5_168)) then (
      j200 x4_168)
    else (
      j200 x5_168))
def lX0_way_65 (S : sT) (P : pT) (a0 : Nat) (a1 : Int32) (a2 : Int32) (x4_44 : Int32) (I52 : zT) (x5_52 : Int32) (j129 : Int32 → Option (Int32 × zT)) (s65 : Int32 → Int32 → Option (Int32 × zT)) (x6_65 : Int32) (x7_65 : Int32) : Option (Int32 × zT) :=
  if (27 : Int32) ≤ x7_65 then (
    j129 x6_65)
  else (
    if (a1 - (1 : Int32)) ≤ x4_44 then (
      j129 x6_65)
    else (
      bd (fX0_changes x5_52 x7_65) fun (r_63 : Int32) =>
      gd (isk S a0 1) <|
      bd (P a0 13) fun (b_65 : Nat) =>
      gd (isk S b_65 24) <|
      gd (inb (x4_44 + (1 : Int32)) (S b_65).2) <|
      bd (P b_65 (ix (x4_44 + (1 : Int32)))) fun (b_68 : Nat) =>
      gd (isk S b_68 20) <|
      gd (inb x7_65 (S b_68).2) <|
      nm ((a2 * r_63) + (I52 b_68 (ix x7_65))) fun (x8_71 : Int32) =>
      nj (fun (t0_121 : Int32) =>
        nm (x7_65 + (1 : Int32)) fun (x7_72 : Int32) =>
        s65 t0_121 x7_72) fun j121 =>
      if x7_65 = 0 then (
        j121 x8_71)
      else (
        j121 (jmin x6_65 x8_71))))
def lX0_way_52 (S : sT) (P : pT) (a0 : Nat) (a1 : Int32) (a2 : Int32) (x4_44 : Int32) (j156 : zT → Option (Int32 × zT)) (s52 : zT → Int32 → Option (Int32 × zT)) (I52 : zT) (x5_52 : Int32) : Option (Int32 × zT) :=
  if (27 : Int32) ≤ x5_52 then (
    j156 I52)
  else (
    nj (fun (x6_129 : Int32) =>
      gd (isk S a0 1) <|
      bd (P a0 13) fun (b_50 : Nat) =>
      gd (isk S b_50 24) <|
      gd (inb x4_44 (S b_50).2) <|
      bd (P b_50 (ix x4_44)) fun (b_53 : Nat) =>
      bd (fX0_dangerAt S P I52 a0 x4_44 x5_52) fun (r_55 : Int32) =>
      gd (isk S b_53 20) <|
      gd (inb x5_52 (S b_53).2) <|
      nm (zset I52 b_53 (ix x5_52) (r_55 + x6_129)) fun (I_58 : zT) =>
      nm (x5_52 + (1 : Int32)) fun (x5_59 : Int32) =>
      s52 I_58 x5_59) fun j129 =>
    nj (it1 (lX0_way_65 S P a0 a1 a2 x4_44 I52 x5_52 j129) FU) fun k65 =>
    k65 (0 : Int32) (0 : Int32))
def lX0_way_44 (S : sT) (P : pT) (a0 : Nat) (a1 : Int32) (a2 : Int32) (j162 : zT → Option (Int32 × zT)) (s44 : zT → Int32 → Option (Int32 × zT)) (I44 : zT) (x4_44 : Int32) : Option (Int32 × zT) :=
  if x4_44 < 0 then (
    j162 I44)
  else (
    nj (fun (I156 : zT) =>
      nm (x4_44 + (-1 : Int32)) fun (x4_47 : Int32) =>
      s44 I156 x4_47) fun j156 =>
    nj (it1 (lX0_way_52 S P a0 a1 a2 x4_44 j156) FU) fun k52 =>
    k52 I44 (0 : Int32))
def fX0_way (S : sT) (P : pT) (I : zT) (a0 : Nat) (a1 : Int32) (a2 : Int32) (a3 : Int32) : Option (Int32 × zT) :=
  bd (fX0_isIn a1 (1 : Int32) (12 : Int32)) fun (r_2 : Int32) =>
  if r_2 = 0 then (
    some ((-1 : Int32), I))
  else (
    bd (fX0_isIn a2 (0 : Int32) (9 : Int32)) fun (r_5 : Int32) =>
    if r_5 = 0 then (
      some ((-1 : Int32), I))
    else (
      nj (
        nm (a1 - (1 : Int32)) fun (x4_7 : Int32) =>
        nj (fun (I162 : zT) =>
          nj (fun (x4_206 : Int32) =>
            if a3 = 0 then (
              gd (isk S a0 1) <|
              bd (P a0 13) fun (b_29 : Nat) =>
              gd (isk S b_29 24) <|
              gd (inb (0 : Int32) (S b_29).2) <|
              bd (P b_29 (ix (0 : Int32))) fun (b_32 : Nat) =>
              gd (isk S b_32 20) <|
              gd (inb x4_206 (S b_32).2) <|
              some ((I162 b_32 (ix x4_206)), I162))
            else (
              nj (it1 (lX0_way_223 S P a0 a2 a3 I162) FU) fun k223 =>
              k223 x4_206 (1 : Int32))) fun j206 =>
          nj (it1 (lX0_way_168 S P a0 I162 j206) FU) fun k168 =>
          k168 (0 : Int32) (1 : Int32)) fun j162 =>
        nj (it1 (lX0_way_44 S P a0 a1 a2 j162) FU) fun k44 =>
        k44 I x4_7) fun j39 =>
      if a3 = 0 then (
        j39)
      else (
        bd (fX0_isIn a3 (10 : Int32) ((9 : Int32) + a1)) fun (r_76 : Int32) =>
        if r_76 = 0 then (
          some ((-1 : Int32), I))
        else (
          j39))))
def fX0_spot (S : sT) (P : pT) (I : zT) (a0 : Nat) (a1 : Int32) (a2 : Int32) (a3 : Int32) : Option (Int32 × zT) :=
  bd (fX0_isIn a1 (0 : Int32) (8 : Int32)) fun (r_2 : Int32) =>
  if r_2 = 0 then (
    some ((0 : Int32), I))
  else (
    bd (fX0_isIn a2 (0 : Int32) (99 : Int32)) fun (r_5 : Int32) =>
    if r_5 = 0 then (
      some ((0 : Int32), I))
    else (
      bd (fX0_isIn a3 (1 : Int32) (9 : Int32)) fun (r_8 : Int32) =>
      if r_8 = 0 then (
        some ((0 : Int32), I))
      else (
        gd (isk S a0 1) <|
        bd (P a0 4) fun (b_11 : Nat) =>
        gd (isk S b_11 2) <|
        bd (P b_11 11) fun (b_13 : Nat) =>
        gd (isk S b_13 20) <|
        gd (inb a1 (S b_13).2) <|
        nm (zset I b_13 (ix a1) a2) fun (I_16 : zT) =>
        bd (P b_11 12) fun (b_17 : Nat) =>
        gd (isk S b_17 20) <|
        gd (inb a1 (S b_17).2) <|
        nm (zset I_16 b_17 (ix a1) a3) fun (I_20 : zT) =>
        some ((1 : Int32), I_20))))
def lX0_felt_127 (S : sT) (P : pT) (a0 : Nat) (b_4 : Nat) (b_5 : Nat) (I101 : zT) (x4_107 : Int32) (j225 : Int32 → Option (Int32 × zT)) (s127 : Int32 → Int32 → Int32 → Int32 → Option (Int32 × zT)) (x5_127 : Int32) (x6_127 : Int32) (x7_127 : Int32) (x8_127 : Int32) : Option (Int32 × zT) :=
  if (9 : Int32) ≤ x8_127 then (
    j225 x7_127)
  else (
    bd (P a0 14) fun (b_10 : Nat) =>
    gd (isk S b_10 20) <|
    gd (inb x8_127 (S b_10).2) <|
    nm (I101 b_10 (ix x8_127)) fun (x9_13 : Int32) =>
    nj (fun (t0_159 : Int32) =>
      nj (fun (t1_176 : Int32) =>
        nm (x5_127 + t1_176) fun (x5_14 : Int32) =>
        nj (fun (t1_194 : Int32) =>
          nm (x6_127 + t1_194) fun (x6_15 : Int32) =>
          gd (isk S b_4 20) <|
          gd (inb x9_13 (S b_4).2) <|
          nj (fun (t2_215 : Int32) =>
            nm (x7_127 + ((I101 b_4 (ix x9_13)) * t2_215)) fun (x7_18 : Int32) =>
            nm (x8_127 + (1 : Int32)) fun (x8_19 : Int32) =>
            s127 x5_14 x6_15 x7_18 x8_19) fun j215 =>
          if t0_159 = 0 then (
            j215 x6_15)
          else (
            j215 x5_14)) fun j194 =>
        if t0_159 = 0 then (
          gd (isk S b_5 20) <|
          gd (inb x9_13 (S b_5).2) <|
          j194 (I101 b_5 (ix x9_13)))
        else (
          j194 (0 : Int32))) fun j176 =>
      if t0_159 = 0 then (
        j176 (0 : Int32))
      else (
        gd (isk S b_5 20) <|
        gd (inb x9_13 (S b_5).2) <|
        j176 (I101 b_5 (ix x9_13)))) fun j159 =>
    if ((jsr x4_107 x9_13) &&& (1 : Int32)) = (1 : Int32) then (
      j159 (1 : Int32))
    else (
      j159 (0 : Int32)))
def lX0_felt_107 (S : sT) (P : pT) (a0 : Nat) (b_4 : Nat) (b_5 : Nat) (I101 : zT) (s107 : Int32 → Int32 → Option (Int32 × zT)) (x3_107 : Int32) (x4_107 : Int32) : Option (Int32 × zT) :=
  if (512 : Int32) ≤ x4_107 then (
    some (x3_107, I101))
  else (
    nj (fun (x7_225 : Int32) =>
      nm (jmin x3_107 x7_225) fun (x3_7 : Int32) =>
      nm (x4_107 + (1 : Int32)) fun (x4_8 : Int32) =>
      s107 x3_7 x4_8) fun j225 =>
    nj (it3 (lX0_felt_127 S P a0 b_4 b_5 I101 x4_107 j225) FU) fun k127 =>
    k127 (0 : Int32) (0 : Int32) (0 : Int32) (0 : Int32))
def lX0_felt_27 (S : sT) (P : pT) (a0 : Nat) (b_4 : Nat) (b_5 : Nat) (x3_18 : Int32) (j87 : zT → Int32 → Option (Int32 × zT)) (s27 : zT → Int32 → Option (Int32 × zT)) (I27 : zT) (x4_27 : Int32) : Option (Int32 × zT) :=
  if x4_27 ≤ 0 then (
    j87 I27 x4_27)
  else (
    gd (isk S b_5 20) <|
    gd (inb x3_18 (S b_5).2) <|
    bd (P a0 14) fun (b_37 : Nat) =>
    gd (isk S b_37 20) <|
    gd (inb (x4_27 - (1 : Int32)) (S b_37).2) <|
    gd (isk S b_4 20) <|
    gd (inb (I27 b_37 (ix (x4_27 - (1 : Int32)))) (S b_4).2) <|
    gd (inb (I27 b_37 (ix (x4_27 - (1 : Int32)))) (S b_5).2) <|
    gd (inb x3_18 (S b_4).2) <|
    if ((I27 b_5 (ix (I27 b_37 (ix (x4_27 - (1 : Int32)))))) * (I27 b_4 (ix x3_18))) ≤ ((I27 b_5 (ix x3_18)) * (I27 b_4 (ix (I27 b_37 (ix (x4_27 - (1 : Int32))))))) then (
      j87 I27 x4_27)
    else (
      gd (inb x4_27 (S b_37).2) <|
      nm (zset I27 b_37 (ix x4_27) (I27 b_37 (ix (x4_27 - (1 : Int32))))) fun (I_46 : zT) =>
      nm (x4_27 + (-1 : Int32)) fun (x4_47 : Int32) =>
      s27 I_46 x4_47))
def lX0_felt_18 (S : sT) (P : pT) (a0 : Nat) (b_4 : Nat) (b_5 : Nat) (j101 : zT → Option (Int32 × zT)) (s18 : zT → Int32 → Option (Int32 × zT)) (I18 : zT) (x3_18 : Int32) : Option (Int32 × zT) :=
  if (9 : Int32) ≤ x3_18 then (
    j101 I18)
  else (
    nj (fun (I87 : zT) (x4_87 : Int32) =>
      bd (P a0 14) fun (b_29 : Nat) =>
      gd (isk S b_29 20) <|
      gd (inb x4_87 (S b_29).2) <|
      nm (zset I87 b_29 (ix x4_87) x3_18) fun (I_32 : zT) =>
      nm (x3_18 + (1 : Int32)) fun (x3_33 : Int32) =>
      s18 I_32 x3_33) fun j87 =>
    nj (it1 (lX0_felt_27 S P a0 b_4 b_5 x3_18 j87) FU) fun k27 =>
    k27 I18 x3_18)
def fX0_felt (S : sT) (P : pT) (I : zT) (a0 : Nat) : Option (Int32 × zT) :=
  gd (isk S a0 1) <|
  bd (P a0 4) fun (b_2 : Nat) =>
  gd (isk S b_2 2) <|
  bd (P b_2 11) fun (b_4 : Nat) =>
  bd (P b_2 12) fun (b_5 : Nat) =>
  nj (fun (I101 : zT) =>
    nj (it1 (lX0_felt_107 S P a0 b_4 b_5 I101) FU) fun k107 =>
    k107 (1000000 : Int32) (0 : Int32)) fun j101 =>
  nj (it1 (lX0_felt_18 S P a0 b_4 b_5 j101) FU) fun k18 =>
  k18 I (0 : Int32)
def fX0_watch (S : sT) (P : pT) (I : zT) (a0 : Nat) (a1 : Int32) : Option (Int32 × zT) :=
  bd (fX0_isIn a1 (1 : Int32) (99 : Int32)) fun (r_2 : Int32) =>
  if r_2 = 0 then (
    some ((-1 : Int32), I))
  else (
    gd (isk S a0 1) <|
    bd (P a0 4) fun (b_5 : Nat) =>
    gd (isk S b_5 2) <|
    if (I b_5 18) = (9 : Int32) then (
      some ((-1 : Int32), I))
    else (
      bd (P b_5 13) fun (b_8 : Nat) =>
      gd (isk S b_8 20) <|
      gd (inb (I b_5 18) (S b_8).2) <|
      nm (zset I b_8 (ix (I b_5 18)) a1) fun (I_11 : zT) =>
      nm (zset I_11 b_5 18 ((I_11 b_5 18) + (1 : Int32))) fun (I_12 : zT) =>
      some (((I_12 b_5 18) - (1 : Int32)), I_12)))
def lX0_gives_149 (S : sT) (P : pT) (a0 : Nat) (b_2 : Nat) (s149 : zT → Int32 → Option (zT)) (I149 : zT) (x3_149 : Int32) : Option (zT) :=
  if (I149 b_2 18) ≤ x3_149 then (
    some I149)
  else (
    bd (P a0 16) fun (b_13 : Nat) =>
    bd (P a0 15) fun (b_14 : Nat) =>
    gd (isk S b_14 20) <|
    gd (inb x3_149 (S b_14).2) <|
    gd (isk S b_13 20) <|
    gd (inb x3_149 (S b_13).2) <|
    nm (zset I149 b_13 (ix x3_149) (I149 b_14 (ix x3_149))) fun (I_19 : zT) =>
    nm (x3_149 + (1 : Int32)) fun (x3_20 : Int32) =>
    s149 I_19 x3_20)
def lX0_gives_13 (S : sT) (P : pT) (a0 : Nat) (a1 : Int32) (rc : zT → Nat → Int32 → Option (zT)) (b_2 : Nat) (s13 : zT → Int32 → Option (zT)) (I13 : zT) (x2_13 : Int32) : Option (zT) :=
  if (3 : Int32) ≤ x2_13 then (
    some I13)
  else (
    bd (P a0 15) fun (b_24 : Nat) =>
    gd (isk S b_24 20) <|
    gd (inb a1 (S b_24).2) <|
    nm (zset I13 b_24 (ix a1) x2_13) fun (I_27 : zT) =>
    bd (P a0 17) fun (b_28 : Nat) =>
    gd (isk S b_28 20) <|
    gd (inb x2_13 (S b_28).2) <|
    bd (P b_2 13) fun (b_31 : Nat) =>
    gd (isk S b_31 20) <|
    gd (inb a1 (S b_31).2) <|
    nm (zset I_27 b_28 (ix x2_13) ((I_27 b_28 (ix x2_13)) + (I_27 b_31 (ix a1)))) fun (I_34 : zT) =>
    bd (rc I_34 a0 (a1 + (1 : Int32))) fun (I_36 : zT) =>
    nm (zset I_36 b_28 (ix x2_13) ((I_36 b_28 (ix x2_13)) - (I_36 b_31 (ix a1)))) fun (I_37 : zT) =>
    nm (x2_13 + (1 : Int32)) fun (x2_38 : Int32) =>
    s13 I_37 x2_38)
def bX0_gives (S : sT) (P : pT) (rc : zT → Nat → Int32 → Option (zT)) (I : zT) (a0 : Nat) (a1 : Int32) : Option (zT) :=
  gd (isk S a0 1) <|
  bd (P a0 4) fun (b_2 : Nat) =>
  gd (isk S b_2 2) <|
  if (I b_2 18) ≤ a1 then (
    bd (P a0 17) fun (b_5 : Nat) =>
    gd (isk S b_5 20) <|
    gd (inb (0 : Int32) (S b_5).2) <|
    gd (inb (1 : Int32) (S b_5).2) <|
    gd (inb (2 : Int32) (S b_5).2) <|
    nm ((jmax (I b_5 (ix (0 : Int32))) (jmax (I b_5 (ix (1 : Int32))) (I b_5 (ix (2 : Int32))))) - (jmin (I b_5 (ix (0 : Int32))) (jmin (I b_5 (ix (1 : Int32))) (I b_5 (ix (2 : Int32)))))) fun (x2_10 : Int32) =>
    nj (
      nm (zset I a0 18 x2_10) fun (I_11 : zT) =>
      nj (it1 (lX0_gives_149 S P a0 b_2) FU) fun k149 =>
      k149 I_11 (0 : Int32)) fun j142 =>
    if (I a0 18) = (-1 : Int32) then (
      j142)
    else (
      if x2_10 < (I a0 18) then (
        j142)
      else (
        some I)))
  else (
    nj (it1 (lX0_gives_13 S P a0 a1 rc b_2) FU) fun k13 =>
    k13 I (0 : Int32))
def fX0_gives (d : Nat) (S : sT) (P : pT) (I : zT) (a0 : Nat) (a1 : Int32) : Option (zT) := it2 (bX0_gives S P) d I a0 a1
def fX0_watches (S : sT) (P : pT) (I : zT) (a0 : Nat) (a1 : Int32) : Option (Int32 × zT) :=
  nj (
    gd (isk S a0 1) <|
    nm (zset I a0 18 (-1 : Int32)) fun (I_2 : zT) =>
    bd (fX0_gives 12 S P I_2 a0 (0 : Int32)) fun (I_4 : zT) =>
    if a1 = 0 then (
      some ((I_4 a0 18), I_4))
    else (
      bd (P a0 16) fun (b_6 : Nat) =>
      gd (isk S b_6 20) <|
      gd (inb (a1 - (10 : Int32)) (S b_6).2) <|
      some ((I_4 b_6 (ix (a1 - (10 : Int32)))), I_4))) fun j25 =>
  if a1 = 0 then (
    j25)
  else (
    gd (isk S a0 1) <|
    bd (P a0 4) fun (b_11 : Nat) =>
    gd (isk S b_11 2) <|
    bd (fX0_isIn a1 (10 : Int32) ((9 : Int32) + (I b_11 18))) fun (r_14 : Int32) =>
    if r_14 = 0 then (
      some ((-1 : Int32), I))
    else (
      j25))
def fX0_lends (S : sT) (P : pT) (I : zT) (a0 : Nat) (a1 : Int32) (a2 : Int32) (a3 : Int32) (a4 : Int32) : Option (Int32 × zT) :=
  gd (isk S a0 1) <|
  bd (fX0_isThree S P I a0 a1) fun (r_3 : Int32) =>
  if r_3 = 0 then (
    some ((0 : Int32), I))
  else (
    bd (fX0_isThing a2) fun (r_6 : Int32) =>
    if r_6 = 0 then (
      some ((0 : Int32), I))
    else (
      bd (fX0_isThing a3) fun (r_9 : Int32) =>
      if r_9 = 0 then (
        some ((0 : Int32), I))
      else (
        if a2 = a3 then (
          some ((0 : Int32), I))
        else (
          bd (P a0 4) fun (b_12 : Nat) =>
          gd (isk S b_12 2) <|
          bd (P b_12 10) fun (b_14 : Nat) =>
          gd (isk S b_14 30) <|
          gd (inb a1 (S b_14).2) <|
          bd (P b_14 (ix a1)) fun (b_17 : Nat) =>
          gd (isk S b_17 28) <|
          gd (inb a2 (S b_17).2) <|
          bd (P b_17 (ix a2)) fun (b_20 : Nat) =>
          gd (isk S b_20 21) <|
          gd (inb a3 (S b_20).2) <|
          gd (isb a4) <|
          nm (zset I b_20 (ix a3) a4) fun (I_24 : zT) =>
          some ((1 : Int32), I_24)))))
def lX0_closes_67 (S : sT) (P : pT) (I : zT) (a0 : Nat) (a1 : Int32) (a2 : Int32) (a3 : Int32) (a4 : Int32) (a5 : Int32) (rc : Nat → Int32 → Int32 → Int32 → Int32 → Int32 → Option (Int32)) (x6_28 : Int32) (b_2 : Nat) (j119 : Option (Int32)) (s67 : Int32 → Option (Int32)) (x7_67 : Int32) : Option (Int32) :=
  if (3 : Int32) ≤ x7_67 then (
    j119)
  else (
    bd (P b_2 10) fun (b_9 : Nat) =>
    gd (isk S b_9 30) <|
    gd (inb x6_28 (S b_9).2) <|
    bd (P b_9 (ix x6_28)) fun (b_12 : Nat) =>
    gd (isk S b_12 28) <|
    gd (inb x7_67 (S b_12).2) <|
    bd (P b_12 (ix x7_67)) fun (b_15 : Nat) =>
    gd (isk S b_15 21) <|
    gd (inb a3 (S b_15).2) <|
    nj (
      nm (x7_67 + (1 : Int32)) fun (x7_18 : Int32) =>
      s67 x7_18) fun j113 =>
    if (I b_15 (ix a3)) = 0 then (
      j113)
    else (
      bd (rc a0 a1 a2 x7_67 (a4 ||| (js (1 : Int32) x6_28)) a5) fun (r_21 : Int32) =>
      if r_21 = 0 then (
        j113)
      else (
        some (1 : Int32))))
def lX0_closes_28 (S : sT) (P : pT) (I : zT) (a0 : Nat) (a1 : Int32) (a2 : Int32) (a3 : Int32) (a4 : Int32) (a5 : Int32) (rc : Nat → Int32 → Int32 → Int32 → Int32 → Int32 → Option (Int32)) (s28 : Int32 → Option (Int32)) (x6_28 : Int32) : Option (Int32) :=
  gd (isk S a0 1) <|
  bd (P a0 4) fun (b_2 : Nat) =>
  gd (isk S b_2 2) <|
  if (I b_2 15) ≤ x6_28 then (
    some (0 : Int32))
  else (
    nj (
      nm (x6_28 + (1 : Int32)) fun (x6_5 : Int32) =>
      s28 x6_5) fun j119 =>
    if ((jsr a5 x6_28) &&& (1 : Int32)) = 0 then (
      j119)
    else (
      if ((jsr a4 x6_28) &&& (1 : Int32)) = (1 : Int32) then (
        j119)
      else (
        nj (it0 (lX0_closes_67 S P I a0 a1 a2 a3 a4 a5 rc x6_28 b_2 j119) FU) fun k67 =>
        k67 (0 : Int32))))
def bX0_closes (S : sT) (P : pT) (I : zT) (rc : Nat → Int32 → Int32 → Int32 → Int32 → Int32 → Option (Int32)) (a0 : Nat) (a1 : Int32) (a2 : Int32) (a3 : Int32) (a4 : Int32) (a5 : Int32) : Option (Int32) :=
  nj (
    nj (it0 (lX0_closes_28 S P I a0 a1 a2 a3 a4 a5 rc) FU) fun k28 =>
    k28 (0 : Int32)) fun j25 =>
  if a4 = a5 then (
    gd (isk S a0 1) <|
    bd (P a0 4) fun (b_25 : Nat) =>
    gd (isk S b_25 2) <|
    bd (P b_25 10) fun (b_27 : Nat) =>
    gd (isk S b_27 30) <|
    gd (inb a1 (S b_27).2) <|
    bd (P b_27 (ix a1)) fun (b_30 : Nat) =>
    gd (isk S b_30 28) <|
    gd (inb a2 (S b_30).2) <|
    bd (P b_30 (ix a2)) fun (b_33 : Nat) =>
    gd (isk S b_33 21) <|
    gd (inb a3 (S b_33).2) <|
    if (I b_33 (ix a3)) = 0 then (
      j25)
    else (
      some (1 : Int32)))
  else (
    j25)
def fX0_closes (d : Nat) (S : sT) (P : pT) (I : zT) (a0 : Nat) (a1 : Int32) (a2 : Int32) (a3 : Int32) (a4 : Int32) (a5 : Int32) : Option (Int32) := it5 (bX0_closes S P I) d a0 a1 a2 a3 a4 a5
def lX0_isRing_7 (S : sT) (P : pT) (I : zT) (a0 : Nat) (a1 : Int32) (r_2 : Int32) (s7 : Int32 → Option (Int32)) (x3_7 : Int32) : Option (Int32) :=
  if (3 : Int32) ≤ x3_7 then (
    some (0 : Int32))
  else (
    gd (isk S a0 1) <|
    bd (fX0_closes 12 S P I a0 r_2 x3_7 x3_7 (js (1 : Int32) r_2) a1) fun (r_6 : Int32) =>
    if r_6 = 0 then (
      nm (x3_7 + (1 : Int32)) fun (x3_8 : Int32) =>
      s7 x3_8)
    else (
      some (1 : Int32)))
def fX0_isRing (S : sT) (P : pT) (I : zT) (a0 : Nat) (a1 : Int32) : Option (Int32) :=
  bd (fJ13_numberOfTrailingZeros a1) fun (r_2 : Int32) =>
  nj (it0 (lX0_isRing_7 S P I a0 a1 r_2) FU) fun k7 =>
  k7 (0 : Int32)
def lX0_ring_4 (S : sT) (P : pT) (I : zT) (a0 : Nat) (s4 : Int32 → Int32 → Option (Int32)) (x1_4 : Int32) (x2_4 : Int32) : Option (Int32) :=
  gd (isk S a0 1) <|
  bd (P a0 4) fun (b_2 : Nat) =>
  gd (isk S b_2 2) <|
  if (js (1 : Int32) (I b_2 15)) ≤ x2_4 then (
    some x1_4)
  else (
    bd (fJ13_bitCount x2_4) fun (r_6 : Int32) =>
    nj (fun (x1_53 : Int32) =>
      nm (x2_4 + (1 : Int32)) fun (x2_7 : Int32) =>
      s4 x1_53 x2_7) fun j53 =>
    if r_6 < (2 : Int32) then (
      j53 x1_4)
    else (
      nj (
        bd (fX0_isRing S P I a0 x2_4) fun (r_10 : Int32) =>
        if r_10 = 0 then (
          j53 x1_4)
        else (
          j53 x2_4)) fun j40 =>
      if x1_4 = (-1 : Int32) then (
        j40)
      else (
        bd (fJ13_bitCount x1_4) fun (r_14 : Int32) =>
        if r_14 ≤ r_6 then (
          j53 x1_4)
        else (
          j40))))
def fX0_ring (S : sT) (P : pT) (I : zT) (a0 : Nat) : Option (Int32) :=
  nj (it1 (lX0_ring_4 S P I a0) FU) fun k4 =>
  k4 (-1 : Int32) (0 : Int32)
def fX0_image (S : sT) (P : pT) (I : zT) (a0 : Nat) (a1 : Int32) : Option (Int32 × pT × zT) :=
  nj (
    nj (fun (P42 : pT) (I42 : zT) =>
      gd (isk S a0 1) <|
      nm (zset I42 a0 6 (1 : Int32)) fun (I_2 : zT) =>
      some ((1 : Int32), P42, I_2)) fun j42 =>
    if a1 = 0 then (
      gd (isk S a0 1) <|
      bd (P a0 4) fun (b_5 : Nat) =>
      bd (P a0 5) fun (b_6 : Nat) =>
      gd (isk S b_5 2) <|
      bdp (fX1_takes S P I b_5 b_6) fun (P_9 : pT) (I_10 : zT) =>
      j42 P_9 I_10)
    else (
      gd (isk S a0 1) <|
      bd (P a0 5) fun (b_12 : Nat) =>
      bd (P a0 4) fun (b_13 : Nat) =>
      gd (isk S b_12 2) <|
      bdp (fX1_takes S P I b_12 b_13) fun (P_16 : pT) (I_17 : zT) =>
      j42 P_16 I_17)) fun j13 =>
  if a1 = 0 then (
    gd (isk S a0 1) <|
    if (I a0 6) = 0 then (
      some ((0 : Int32), P, I))
    else (
      j13))
  else (
    j13)
def fX0_look (S : sT) (P : pT) (I : zT) (a0 : Nat) (a1 : Int32) : Option (Int32) :=
  if a1 = (0 : Int32) then (
    gd (isk S a0 1) <|
    bd (P a0 4) fun (b_3 : Nat) =>
    gd (isk S b_3 2) <|
    some (I b_3 15))
  else
  if a1 = (1 : Int32) then (
    gd (isk S a0 1) <|
    bd (P a0 4) fun (b_7 : Nat) =>
    gd (isk S b_7 2) <|
    some (I b_7 16))
  else
  if a1 = (2 : Int32) then (
    gd (isk S a0 1) <|
    bd (P a0 4) fun (b_11 : Nat) =>
    gd (isk S b_11 2) <|
    some (I b_11 17))
  else
  if a1 = (3 : Int32) then (
    gd (isk S a0 1) <|
    bd (P a0 4) fun (b_15 : Nat) =>
    gd (isk S b_15 2) <|
    some (I b_15 18))
  else
  if a1 = (4 : Int32) then (
    gd (isk S a0 1) <|
    bd (P a0 4) fun (b_19 : Nat) =>
    gd (isk S b_19 2) <|
    some (I b_19 14))
  else
  if a1 = (5 : Int32) then (
    gd (isk S a0 1) <|
    bd (P a0 4) fun (b_23 : Nat) =>
    gd (isk S b_23 2) <|
    some (I b_23 20))
  else
  if a1 = (6 : Int32) then (
    gd (isk S a0 1) <|
    bd (P a0 4) fun (b_27 : Nat) =>
    gd (isk S b_27 2) <|
    some (I b_27 19))
  else
  bd (fX0_isIn a1 (10 : Int32) (19 : Int32)) fun (r_30 : Int32) =>
  if r_30 = 0 then (
    some (-1 : Int32))
  else (
    gd (isk S a0 1) <|
    bd (P a0 4) fun (b_33 : Nat) =>
    gd (isk S b_33 2) <|
    bd (P b_33 8) fun (b_35 : Nat) =>
    gd (isk S b_35 21) <|
    gd (inb (a1 - (10 : Int32)) (S b_35).2) <|
    if (I b_35 (ix (a1 - (10 : Int32)))) = 0 then (
      some (0 : Int32))
    else (
      some (1 : Int32)))
