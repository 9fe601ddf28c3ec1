/-! OneEyeModel's methods as functions of its numbers (printed by gen/gen.py) -/
def fX4_state (Z : zT) (a1 : Int32) : Option (Int32 × zT) :=
  nm (zset Z 0 0 (0 : Int32)) fun (Z_1 : zT) =>
  nm (Z_1 1 0) fun (x2_2 : Int32) =>
  nm (zset Z_1 1 0 a1) fun (Z_3 : zT) =>
  some (x2_2, Z_3)
def fX4_isIn (Z : zT) (a1 a2 a3 : Int32) : Option (Int32) :=
  nj (
    some (0 : Int32)) fun j14 =>
  if a1 < a2 then (
    j14)
  else (
    if a3 < a1 then (
      j14)
    else (
      some (1 : Int32)))
def lX4_three_68 (x3_60 : Int32) (j99 : zT → Option (Int32 × zT)) (s68 : zT → Int32 → Option (Int32 × zT)) (Z68 : zT) (x4_68 : Int32) : Option (Int32 × zT) :=
  if (4 : Int32) ≤ x4_68 then (
    j99 Z68)
  else (
    gd (inb (((4 : Int32) * (((3 : Int32) * (Z68 2 0)) + x3_60)) + x4_68) 48) <|
    nm (zset Z68 10 (ix (((4 : Int32) * (((3 : Int32) * (Z68 2 0)) + x3_60)) + x4_68)) (1 : Int32)) fun (Z_18 : zT) =>
    nm (x4_68 + (1 : Int32)) fun (x4_19 : Int32) =>
    s68 Z_18 x4_19)
def lX4_three_60 (j105 : zT → Option (Int32 × zT)) (s60 : zT → Int32 → Option (Int32 × zT)) (Z60 : zT) (x3_60 : Int32) : Option (Int32 × zT) :=
  if (3 : Int32) ≤ x3_60 then (
    j105 Z60)
  else (
    nj (fun (Z99 : zT) =>
      nm (x3_60 + (1 : Int32)) fun (x3_15 : Int32) =>
      s60 Z99 x3_15) fun j99 =>
    nj (it1 (lX4_three_68 x3_60 j99) FU) fun k68 =>
    k68 Z60 (0 : Int32))
def fX4_three (Z : zT) (a1 a2 : Int32) : Option (Int32 × zT) :=
  nm (zset Z 0 0 (0 : Int32)) fun (Z_1 : zT) =>
  bd (fX4_isIn Z_1 a1 (1 : Int32) (9 : Int32)) fun (r_3 : Int32) =>
  if r_3 = 0 then (
    some ((-1 : Int32), Z_1))
  else (
    bd (fX4_isIn Z_1 a2 (0 : Int32) (1000 : Int32)) fun (r_6 : Int32) =>
    if r_6 = 0 then (
      some ((-1 : Int32), Z_1))
    else (
      if (Z_1 2 0) = (4 : Int32) then (
        some ((-1 : Int32), Z_1))
      else (
        gd (inb (Z_1 2 0) 4) <|
        nm (zset Z_1 3 (ix (Z_1 2 0)) a1) fun (Z_10 : zT) =>
        gd (inb (Z_10 2 0) 4) <|
        nm (zset Z_10 4 (ix (Z_10 2 0)) a2) fun (Z_12 : zT) =>
        nj (fun (Z105 : zT) =>
          nm (zset Z105 2 0 ((Z105 2 0) + (1 : Int32))) fun (Z_13 : zT) =>
          some (((Z_13 2 0) - (1 : Int32)), Z_13)) fun j105 =>
        nj (it1 (lX4_three_60 j105) FU) fun k60 =>
        k60 Z_12 (0 : Int32))))
def fX4_isFact (Z : zT) (a1 : Int32) : Option (Int32) :=
  nj (
    some (0 : Int32)) fun j14 =>
  if a1 < 0 then (
    j14)
  else (
    if (10 : Int32) ≤ a1 then (
      j14)
    else (
      some (1 : Int32)))
def fX4_fact (Z : zT) (a1 a2 : Int32) : Option (Int32 × zT) :=
  nm (zset Z 0 0 (0 : Int32)) fun (Z_1 : zT) =>
  bd (fX4_isFact Z_1 a1) fun (r_3 : Int32) =>
  if r_3 = 0 then (
    some ((0 : Int32), Z_1))
  else (
    nj (fun (t2_29 : Int32) =>
      gd (inb a1 10) <|
      nm (zset Z_1 8 (ix a1) t2_29) fun (Z_6 : zT) =>
      some ((1 : Int32), Z_6)) fun j29 =>
    if a2 = 0 then (
      j29 (0 : Int32))
    else (
      j29 (1 : Int32)))
def fX4_isPerson (Z : zT) (a1 : Int32) : Option (Int32) :=
  nj (
    some (0 : Int32)) fun j18 =>
  if a1 < 0 then (
    j18)
  else (
    if ((3 : Int32) * (Z 2 0)) ≤ a1 then (
      j18)
    else (
      some (1 : Int32)))
def fX4_isThree (Z : zT) (a1 : Int32) : Option (Int32) :=
  nj (
    some (0 : Int32)) fun j16 =>
  if a1 < 0 then (
    j16)
  else (
    if (Z 2 0) ≤ a1 then (
      j16)
    else (
      some (1 : Int32)))
def fX4_trust (Z : zT) (a1 a2 a3 : Int32) : Option (Int32 × zT) :=
  nm (zset Z 0 0 (0 : Int32)) fun (Z_1 : zT) =>
  bd (fX4_isPerson Z_1 a1) fun (r_3 : Int32) =>
  if r_3 = 0 then (
    some ((0 : Int32), Z_1))
  else (
    bd (fX4_isThree Z_1 a2) fun (r_6 : Int32) =>
    if r_6 = 0 then (
      some ((0 : Int32), Z_1))
    else (
      nj (fun (t2_41 : Int32) =>
        gd (inb (((4 : Int32) * a1) + a2) 48) <|
        nm (zset Z_1 10 (ix (((4 : Int32) * a1) + a2)) t2_41) fun (Z_9 : zT) =>
        some ((1 : Int32), Z_9)) fun j41 =>
      if a3 = 0 then (
        j41 (0 : Int32))
      else (
        j41 (1 : Int32))))
def lX4_puts_3 (a1 : Int32) (s3 : zT → Int32 → Option (zT)) (Z3 : zT) (x2_3 : Int32) : Option (zT) :=
  if x2_3 < 0 then (
    some Z3)
  else (
    gd (inb (Z3 34 0) 400) <|
    nm (zset Z3 33 (ix (Z3 34 0)) ((jsr a1 x2_3) &&& (255 : Int32))) fun (Z_3 : zT) =>
    nm (zset Z_3 34 0 ((Z_3 34 0) + (1 : Int32))) fun (Z_4 : zT) =>
    nm (x2_3 + (-8 : Int32)) fun (x2_5 : Int32) =>
    s3 Z_4 x2_5)
def fX4_puts (Z : zT) (a1 : Int32) : Option (zT) :=
  nj (it1 (lX4_puts_3 a1) FU) fun k3 =>
  k3 Z (24 : Int32)
def fX4_feed (Z : zT) (a1 a2 a3 a4 a5 : Int32) : Option (Int32 × zT) :=
  nm (zset Z 0 0 (0 : Int32)) fun (Z_1 : zT) =>
  if (Z_1 34 0) ≤ (380 : Int32) then (
    bd (fX4_puts Z_1 a1) fun (Z_4 : zT) =>
    bd (fX4_puts Z_4 a2) fun (Z_6 : zT) =>
    bd (fX4_puts Z_6 a3) fun (Z_8 : zT) =>
    bd (fX4_puts Z_8 a4) fun (Z_10 : zT) =>
    bd (fX4_puts Z_10 a5) fun (Z_12 : zT) =>
    some ((Z_12 34 0), Z_12))
  else (
    some ((-1 : Int32), Z_1))
def fX4_end (Z : zT) (a1 : Int32) : Option (Int32 × zT) :=
  nm (zset Z 0 0 (0 : Int32)) fun (Z_1 : zT) =>
  bd (fX4_isIn Z_1 a1 (0 : Int32) (Z_1 34 0)) fun (r_3 : Int32) =>
  if r_3 = 0 then (
    some ((0 : Int32), Z_1))
  else (
    nm (zset Z_1 34 0 a1) fun (Z_5 : zT) =>
    some ((1 : Int32), Z_5))
def fX4_raw (Z : zT) (a1 : Int32) : Option (Int32) :=
  if (Z 34 0) ≤ a1 then (
    some (-1 : Int32))
  else (
    gd (inb a1 400) <|
    some (Z 33 (ix a1)))
def fX4_isLetter (Z : zT) (a1 : Int32) : Option (Int32) :=
  bd (fX4_isIn Z a1 (97 : Int32) (122 : Int32)) fun (r_2 : Int32) =>
  nj (
    some (1 : Int32)) fun j24 =>
  if r_2 = 0 then (
    bd (fX4_isIn Z a1 (65 : Int32) (90 : Int32)) fun (r_5 : Int32) =>
    if r_5 = 0 then (
      some (0 : Int32))
    else (
      j24))
  else (
    j24)
def lX4_wordOf_94 (Z : zT) (j115 : Int32 → Option (Int32)) (s94 : Int32 → Option (Int32)) (x4_94 : Int32) : Option (Int32) :=
  gd (inb x4_94 45) <|
  if (Z 32 (ix x4_94)) = (32 : Int32) then (
    j115 x4_94)
  else (
    nm (x4_94 + (1 : Int32)) fun (x4_7 : Int32) =>
    s94 x4_7)
def lX4_wordOf_15 (Z : zT) (a1 : Int32) (a2 : Int32) (x4_5 : Int32) (j69 : Int32 → Option (Int32)) (s15 : Int32 → Option (Int32)) (x5_15 : Int32) : Option (Int32) :=
  gd (inb (x4_5 + x5_15) 45) <|
  if (Z 32 (ix (x4_5 + x5_15))) = (32 : Int32) then (
    j69 x5_15)
  else (
    if a2 ≤ (a1 + x5_15) then (
      j69 x5_15)
    else (
      gd (inb (a1 + x5_15) 400) <|
      if (Z 32 (ix (x4_5 + x5_15))) = (Z 33 (ix (a1 + x5_15))) then (
        nm (x5_15 + (1 : Int32)) fun (x5_15 : Int32) =>
        s15 x5_15)
      else (
        j69 x5_15)))
def lX4_wordOf_5 (Z : zT) (a1 : Int32) (a2 : Int32) (s5 : Int32 → Int32 → Option (Int32)) (x3_5 : Int32) (x4_5 : Int32) : Option (Int32) :=
  if (45 : Int32) ≤ x4_5 then (
    some (-1 : Int32))
  else (
    nj (fun (x5_69 : Int32) =>
      gd (inb (x4_5 + x5_69) 45) <|
      nj (fun (x4_115 : Int32) =>
        nm (x4_115 + (1 : Int32)) fun (x4_3 : Int32) =>
        nm (x3_5 + (1 : Int32)) fun (x3_4 : Int32) =>
        s5 x3_4 x4_3) fun j115 =>
      nj (it0 (lX4_wordOf_94 Z j115) FU) fun k94 =>
      if (Z 32 (ix (x4_5 + x5_69))) = (32 : Int32) then (
        if (a1 + x5_69) = a2 then (
          some x3_5)
        else (
          k94 x4_5))
      else (
        k94 x4_5)) fun j69 =>
    nj (it0 (lX4_wordOf_15 Z a1 a2 x4_5 j69) FU) fun k15 =>
    k15 (0 : Int32))
def fX4_wordOf (Z : zT) (a1 a2 : Int32) : Option (Int32) :=
  nj (it1 (lX4_wordOf_5 Z a1 a2) FU) fun k5 =>
  k5 (0 : Int32) (1 : Int32)
def fX4_isDigit (Z : zT) (a1 : Int32) : Option (Int32) :=
  bd (fX4_isIn Z a1 (48 : Int32) (57 : Int32)) fun (r_2 : Int32) =>
  gd (isb r_2) <|
  some r_2
def lX4_reads_90 (j118 : zT → Option (zT)) (s90 : zT → Option (zT)) (Z90 : zT) : Option (zT) :=
  bd (fX4_raw Z90 (Z90 35 0)) fun (r_15 : Int32) =>
  bd (fX4_isLetter Z90 r_15) fun (r_17 : Int32) =>
  if r_17 = 0 then (
    j118 Z90)
  else (
    nm (zset Z90 35 0 ((Z90 35 0) + (1 : Int32))) fun (Z_19 : zT) =>
    s90 Z_19)
def lX4_reads_166 (j234 : zT → Option (zT)) (s166 : zT → Option (zT)) (Z166 : zT) : Option (zT) :=
  bd (fX4_raw Z166 (Z166 35 0)) fun (r_30 : Int32) =>
  bd (fX4_isDigit Z166 r_30) fun (r_32 : Int32) =>
  if r_32 = 0 then (
    j234 Z166)
  else (
    nj (fun (t1_218 : Int32) =>
      nm (zset Z166 38 0 t1_218) fun (Z_34 : zT) =>
      nm (zset Z_34 35 0 ((Z_34 35 0) + (1 : Int32))) fun (Z_35 : zT) =>
      s166 Z_35) fun j218 =>
    if (10000 : Int32) ≤ (Z166 38 0) then (
      j218 (Z166 38 0))
    else (
      bd (fX4_raw Z166 (Z166 35 0)) fun (r_38 : Int32) =>
      j218 ((((10 : Int32) * (Z166 38 0)) + r_38) - (48 : Int32))))
def lX4_reads_0 (j39 : zT → Option (zT)) (s0 : zT → Option (zT)) (Z0 : zT) : Option (zT) :=
  bd (fX4_raw Z0 (Z0 35 0)) fun (r_41 : Int32) =>
  nj (
    nm (zset Z0 35 0 ((Z0 35 0) + (1 : Int32))) fun (Z_42 : zT) =>
    s0 Z_42) fun j26 =>
  if r_41 = (32 : Int32) then (
    j26)
  else (
    bd (fX4_raw Z0 (Z0 35 0)) fun (r_45 : Int32) =>
    if r_45 = (10 : Int32) then (
      j26)
    else (
      j39 Z0))
def fX4_reads (Z : zT) : Option (zT) :=
  nj (fun (Z39 : zT) =>
    nm (zset Z39 36 0 (Z39 35 0)) fun (Z_1 : zT) =>
    nm (zset Z_1 37 0 (1 : Int32)) fun (Z_2 : zT) =>
    bd (fX4_raw Z_2 (Z_2 35 0)) fun (r_4 : Int32) =>
    if r_4 = (-1 : Int32) then (
      nm (zset Z_2 37 0 (0 : Int32)) fun (Z_39 : zT) =>
      some Z_39)
    else (
      nm (zset Z_2 35 0 ((Z_2 35 0) + (1 : Int32))) fun (Z_6 : zT) =>
      bd (fX4_isLetter Z_6 r_4) fun (r_8 : Int32) =>
      nj (fun (Z118 : zT) =>
        bd (fX4_wordOf Z118 (Z118 36 0) (Z118 35 0)) fun (r_10 : Int32) =>
        nm (zset Z118 38 0 r_10) fun (Z_11 : zT) =>
        if (Z_11 38 0) = (-1 : Int32) then (
          some Z_11)
        else (
          nm (zset Z_11 37 0 (2 : Int32)) fun (Z_13 : zT) =>
          some Z_13)) fun j118 =>
      nj (it0 (lX4_reads_90 j118) FU) fun k90 =>
      if r_8 = 0 then (
        bd (fX4_isDigit Z_6 r_4) fun (r_22 : Int32) =>
        if r_22 = 0 then (
          if r_4 = (59 : Int32) then (
            nm (zset Z_6 37 0 (4 : Int32)) fun (Z_25 : zT) =>
            some Z_25)
          else (
            some Z_6))
        else (
          nm (zset Z_6 38 0 (r_4 - (48 : Int32))) fun (Z_26 : zT) =>
          nj (fun (Z234 : zT) =>
            if (5 : Int32) ≤ ((Z234 35 0) - (Z234 36 0)) then (
              some Z234)
            else (
              nm (zset Z234 37 0 (3 : Int32)) fun (Z_28 : zT) =>
              some Z_28)) fun j234 =>
          nj (it0 (lX4_reads_166 j234) FU) fun k166 =>
          k166 Z_26))
      else (
        k90 Z_6))) fun j39 =>
  nj (it0 (lX4_reads_0 j39) FU) fun k0 =>
  k0 Z
def fX4_errs (Z : zT) (a1 : Int32) : Option (Int32 × zT) :=
  nm (zset Z 39 0 a1) fun (Z_1 : zT) =>
  nm (zset Z_1 40 0 (Z_1 36 0)) fun (Z_2 : zT) =>
  some ((-1 : Int32), Z_2)
def fX4_readThing (Z : zT) : Option (Int32 × zT) :=
  nj (
    bdp (fX4_errs Z (1 : Int32)) fun (r_2 : Int32) (Z_3 : zT) =>
    some (r_2, Z_3)) fun j17 =>
  if (Z 37 0) = (2 : Int32) then (
    if (7 : Int32) ≤ (Z 38 0) then (
      nm ((Z 38 0) - (7 : Int32)) fun (x1_6 : Int32) =>
      bd (fX4_reads Z) fun (Z_8 : zT) =>
      some (x1_6, Z_8))
    else (
      j17))
  else (
    j17)
def fX4_readNumber (Z : zT) (a1 a2 : Int32) : Option (Int32 × zT) :=
  if (Z 37 0) = (3 : Int32) then (
    bd (fX4_isIn Z (Z 38 0) a1 a2) fun (r_3 : Int32) =>
    if r_3 = 0 then (
      bdp (fX4_errs Z (2 : Int32)) fun (r_9 : Int32) (Z_10 : zT) =>
      some (r_9, Z_10))
    else (
      nm (Z 38 0) fun (x3_5 : Int32) =>
      bd (fX4_reads Z) fun (Z_7 : zT) =>
      some (x3_5, Z_7)))
  else (
    bdp (fX4_errs Z (1 : Int32)) fun (r_12 : Int32) (Z_13 : zT) =>
    some (r_12, Z_13))
def fX4_readTo (Z : zT) : Option (Int32 × zT) :=
  nj (
    bdp (fX4_errs Z (1 : Int32)) fun (r_2 : Int32) (Z_3 : zT) =>
    some (r_2, Z_3)) fun j17 =>
  if (Z 37 0) = (2 : Int32) then (
    if (Z 38 0) = (6 : Int32) then (
      bd (fX4_reads Z) fun (Z_7 : zT) =>
      bdp (fX4_readNumber Z_7 (0 : Int32) ((Z_7 2 0) - (1 : Int32))) fun (r_9 : Int32) (Z_10 : zT) =>
      some (r_9, Z_10))
    else (
      j17))
  else (
    j17)
def fX4_readStep (Z : zT) (a1 a2 : Int32) : Option (Int32 × zT) :=
  gd (inb a2 600) <|
  nm (zset Z 43 (ix a2) a1) fun (Z_2 : zT) =>
  nj (fun (t0_21 : Int32) =>
    nj (fun (Z62 : zT) (t2_62 : Int32) =>
      gd (inb (a2 + (1 : Int32)) 600) <|
      nm (zset Z62 43 (ix (a2 + (1 : Int32))) t2_62) fun (Z_4 : zT) =>
      if (Z_4 43 (ix (a2 + (1 : Int32)))) = (-1 : Int32) then (
        some ((-1 : Int32), Z_4))
      else (
        gd (inb (a2 + (2 : Int32)) 600) <|
        nm (zset Z_4 43 (ix (a2 + (2 : Int32))) (0 : Int32)) fun (Z_7 : zT) =>
        nj (fun (Z104 : zT) =>
          nj (fun (Z124 : zT) =>
            nj (fun (Z146 : zT) =>
              if (Z146 43 (ix (a2 + (2 : Int32)))) = (-1 : Int32) then (
                some ((-1 : Int32), Z146))
              else (
                some ((0 : Int32), Z146))) fun j146 =>
            nj (
              bdp (fX4_readTo Z124) fun (r_10 : Int32) (Z_11 : zT) =>
              nm (zset Z_11 43 (ix (a2 + (2 : Int32))) r_10) fun (Z_12 : zT) =>
              j146 Z_12) fun j134 =>
            if a1 = (2 : Int32) then (
              j134)
            else (
              if a1 = (3 : Int32) then (
                j134)
              else (
                j146 Z124))) fun j124 =>
          if a1 = (5 : Int32) then (
            bdp (fX4_readNumber Z104 (0 : Int32) (8 : Int32)) fun (r_17 : Int32) (Z_18 : zT) =>
            nm (zset Z_18 43 (ix (a2 + (2 : Int32))) r_17) fun (Z_19 : zT) =>
            j124 Z_19)
          else (
            j124 Z104)) fun j104 =>
        if a1 = 0 then (
          bdp (fX4_readNumber Z_7 (0 : Int32) (2 : Int32)) fun (r_22 : Int32) (Z_23 : zT) =>
          nm (zset Z_23 43 (ix (a2 + (2 : Int32))) r_22) fun (Z_24 : zT) =>
          j104 Z_24)
        else (
          j104 Z_7))) fun j62 =>
    if t0_21 = 0 then (
      if a1 = (4 : Int32) then (
        bdp (fX4_readNumber Z_2 (1 : Int32) (99 : Int32)) fun (r_31 : Int32) (Z_32 : zT) =>
        j62 Z_32 r_31)
      else (
        bdp (fX4_readNumber Z_2 (0 : Int32) (9 : Int32)) fun (r_28 : Int32) (Z_29 : zT) =>
        j62 Z_29 r_28))
    else (
      bdp (fX4_readThing Z_2) fun (r_34 : Int32) (Z_35 : zT) =>
      j62 Z_35 r_34)) fun j21 =>
  nj (
    j21 (1 : Int32)) fun j16 =>
  if a1 = 0 then (
    j16)
  else (
    if a1 = (5 : Int32) then (
      j16)
    else (
      j21 (0 : Int32)))
def lX4_readPlan_2 (j25 : zT → Option (Int32 × zT)) (j66 : zT → Option (Int32 × zT)) (j83 : zT → Int32 → Option (Int32 × zT)) (s2 : zT → Int32 → Option (Int32 × zT)) (Z2 : zT) (x1_2 : Int32) : Option (Int32 × zT) :=
  if (Z2 37 0) = (2 : Int32) then (
    if (6 : Int32) ≤ (Z2 38 0) then (
      j83 Z2 x1_2)
    else (
      if x1_2 = (30 : Int32) then (
        j25 Z2)
      else (
        nm (Z2 38 0) fun (x2_14 : Int32) =>
        bd (fX4_reads Z2) fun (Z_16 : zT) =>
        bdp (fX4_readStep Z_16 x2_14 ((480 : Int32) + ((4 : Int32) * x1_2))) fun (r_18 : Int32) (Z_19 : zT) =>
        if r_18 = (-1 : Int32) then (
          some ((-1 : Int32), Z_19))
        else (
          if (Z_19 37 0) = (4 : Int32) then (
            bd (fX4_reads Z_19) fun (Z_23 : zT) =>
            nm (x1_2 + (1 : Int32)) fun (x1_24 : Int32) =>
            s2 Z_23 x1_24)
          else (
            j66 Z_19)))))
  else (
    j83 Z2 x1_2)
def fX4_readPlan (Z : zT) : Option (Int32 × zT) :=
  nj (fun (Z25 : zT) =>
    bdp (fX4_errs Z25 (3 : Int32)) fun (r_2 : Int32) (Z_3 : zT) =>
    some (r_2, Z_3)) fun j25 =>
  nj (fun (Z66 : zT) =>
    bdp (fX4_errs Z66 (1 : Int32)) fun (r_5 : Int32) (Z_6 : zT) =>
    some (r_5, Z_6)) fun j66 =>
  nj (fun (Z83 : zT) (x1_83 : Int32) =>
    if (Z83 37 0) = 0 then (
      some (x1_83, Z83))
    else (
      bdp (fX4_errs Z83 (1 : Int32)) fun (r_9 : Int32) (Z_10 : zT) =>
      some (r_9, Z_10))) fun j83 =>
  nj (it1 (lX4_readPlan_2 j25 j66 j83) FU) fun k2 =>
  k2 Z (0 : Int32)
def lX4_text_74 (a1 : Int32) (x2_60 : Int32) (j108 : zT → Option (Int32 × zT)) (s74 : zT → Int32 → Option (Int32 × zT)) (Z74 : zT) (x3_74 : Int32) : Option (Int32 × zT) :=
  if ((4 : Int32) * x2_60) ≤ x3_74 then (
    j108 Z74)
  else (
    gd (inb ((480 : Int32) + x3_74) 600) <|
    gd (inb (((120 : Int32) * a1) + x3_74) 600) <|
    nm (zset Z74 43 (ix (((120 : Int32) * a1) + x3_74)) (Z74 43 (ix ((480 : Int32) + x3_74)))) fun (Z_18 : zT) =>
    nm (x3_74 + (1 : Int32)) fun (x3_19 : Int32) =>
    s74 Z_18 x3_19)
def fX4_text (Z : zT) (a1 : Int32) : Option (Int32 × zT) :=
  nm (zset Z 0 0 (0 : Int32)) fun (Z_1 : zT) =>
  nm (zset Z_1 41 0 (0 : Int32)) fun (Z_2 : zT) =>
  nm (zset Z_2 42 0 (-1 : Int32)) fun (Z_3 : zT) =>
  nm (zset Z_3 35 0 (0 : Int32)) fun (Z_4 : zT) =>
  bd (fX4_isThree Z_4 a1) fun (r_6 : Int32) =>
  nj (fun (Z60 : zT) (x2_60 : Int32) =>
    nm (zset Z60 34 0 (0 : Int32)) fun (Z_7 : zT) =>
    if x2_60 = (-1 : Int32) then (
      some ((-1 : Int32), Z_7))
    else (
      nj (fun (Z108 : zT) =>
        gd (inb a1 4) <|
        nm (zset Z108 44 (ix a1) x2_60) fun (Z_10 : zT) =>
        nm (zset Z_10 45 (ix a1) (0 : Int32)) fun (Z_11 : zT) =>
        if (Z_11 28 (ix a1)) = (1 : Int32) then (
          some (x2_60, Z_11))
        else (
          nm (zset Z_11 28 (ix a1) (0 : Int32)) fun (Z_13 : zT) =>
          nm (zset Z_13 29 (ix a1) (0 : Int32)) fun (Z_14 : zT) =>
          some (x2_60, Z_14))) fun j108 =>
      nj (it1 (lX4_text_74 a1 x2_60 j108) FU) fun k74 =>
      k74 Z_7 (0 : Int32))) fun j60 =>
  if r_6 = 0 then (
    j60 Z_4 (-1 : Int32))
  else (
    bd (fX4_reads Z_4) fun (Z_22 : zT) =>
    bdp (fX4_readPlan Z_22) fun (r_24 : Int32) (Z_25 : zT) =>
    if r_24 = (-1 : Int32) then (
      nm (zset Z_25 41 0 (Z_25 39 0)) fun (Z_27 : zT) =>
      nm (zset Z_27 42 0 (Z_27 40 0)) fun (Z_28 : zT) =>
      j60 Z_28 r_24)
    else (
      j60 Z_25 r_24))
def fX4_fault (Z : zT) (a1 : Int32) : Option (Int32 × zT) :=
  nm (zset Z 0 0 (0 : Int32)) fun (Z_1 : zT) =>
  if a1 = 0 then (
    some ((Z_1 41 0), Z_1))
  else (
    if a1 = (1 : Int32) then (
      some ((Z_1 42 0), Z_1))
    else (
      some ((-1 : Int32), Z_1)))
def fX4_draw (Z : zT) (a1 : Int32) : Option (Int32 × zT) :=
  nm (zset Z 1 0 (((1664525 : Int32) * (Z 1 0)) + (1013904223 : Int32))) fun (Z_1 : zT) =>
  gd (!decide (a1 = 0)) <|
  some ((jr (jur (Z_1 1 0) (8 : Int32)) a1), Z_1)
def fX4_handsOver (Z : zT) (a1 : Int32) : Option (zT) :=
  gd (inb a1 4) <|
  nm (((3 : Int32) * a1) + (Z 30 (ix a1))) fun (x2_2 : Int32) =>
  nm (zset Z 5 (ix a1) ((Z 5 (ix a1)) + (1 : Int32))) fun (Z_3 : zT) =>
  nm (zset Z_3 28 (ix a1) (0 : Int32)) fun (Z_4 : zT) =>
  nj (fun (Z62 : zT) (t0_62 : Int32) =>
    nj (fun (Z81 : zT) =>
      nj (fun (Z108 : zT) (t2_108 : Int32) =>
        gd (inb x2_2 12) <|
        nm (zset Z108 7 (ix x2_2) t2_108) fun (Z_6 : zT) =>
        some Z_6) fun j108 =>
      if t0_62 = 0 then (
        j108 Z81 (Z81 31 (ix a1)))
      else (
        bdp (fX4_draw Z81 (9 : Int32)) fun (r_9 : Int32) (Z_10 : zT) =>
        j108 Z_10 ((10 : Int32) + r_9))) fun j81 =>
    if t0_62 = 0 then (
      j81 Z62)
    else (
      nm (zset Z62 6 (ix a1) ((Z62 6 (ix a1)) + (1 : Int32))) fun (Z_12 : zT) =>
      j81 Z_12)) fun j62 =>
  nj (fun (Z61 : zT) =>
    j62 Z61 (0 : Int32)) fun j61 =>
  if (Z_4 4 (ix a1)) ≤ 0 then (
    j61 Z_4)
  else (
    bdp (fX4_draw Z_4 (1000 : Int32)) fun (r_15 : Int32) (Z_16 : zT) =>
    if (Z_16 4 (ix a1)) ≤ r_15 then (
      j61 Z_16)
    else (
      j62 Z_16 (1 : Int32)))
def fX4_thing (Z : zT) (a1 a2 : Int32) : Option (Int32) :=
  gd (inb (((3 : Int32) * a1) + a2) 12) <|
  some (Z 7 (ix (((3 : Int32) * a1) + a2)))
def lX4_feels_85 (a1 : Int32) (Z_2 : zT) (j132 : Int32 → Option (zT)) (s85 : Int32 → Int32 → Option (zT)) (x3_85 : Int32) (x4_85 : Int32) : Option (zT) :=
  if x4_85 < 0 then (
    j132 x3_85)
  else (
    bd (fX4_thing Z_2 a1 (0 : Int32)) fun (r_11 : Int32) =>
    nj (fun (x3_126 : Int32) =>
      nm (x4_85 + (-1 : Int32)) fun (x4_12 : Int32) =>
      s85 x3_126 x4_12) fun j126 =>
    if r_11 = x4_85 then (
      j126 x3_85)
    else (
      bd (fX4_thing Z_2 a1 (1 : Int32)) fun (r_15 : Int32) =>
      if r_15 = x4_85 then (
        j126 x3_85)
      else (
        bd (fX4_thing Z_2 a1 (2 : Int32)) fun (r_18 : Int32) =>
        if r_18 = x4_85 then (
          j126 x3_85)
        else (
          j126 x4_85))))
def lX4_feels_39 (a1 : Int32) (Z_2 : zT) (j80 : Int32 → Option (zT)) (s39 : Int32 → Option (zT)) (x3_39 : Int32) : Option (zT) :=
  if x3_39 < 0 then (
    j80 x3_39)
  else (
    bd (fX4_thing Z_2 a1 (0 : Int32)) fun (r_22 : Int32) =>
    nj (
      nm (x3_39 - (1 : Int32)) fun (x3_23 : Int32) =>
      s39 x3_23) fun j73 =>
    if r_22 = x3_39 then (
      j73)
    else (
      bd (fX4_thing Z_2 a1 (1 : Int32)) fun (r_26 : Int32) =>
      if r_26 = x3_39 then (
        j73)
      else (
        bd (fX4_thing Z_2 a1 (2 : Int32)) fun (r_29 : Int32) =>
        if r_29 = x3_39 then (
          j73)
        else (
          j80 x3_39))))
def fX4_feels (Z : zT) (a1 : Int32) : Option (zT) :=
  gd (inb a1 4) <|
  nm (zset Z 28 (ix a1) (0 : Int32)) fun (Z_2 : zT) =>
  nm (((3 : Int32) * a1) + (Z_2 30 (ix a1))) fun (x2_3 : Int32) =>
  gd (inb x2_3 12) <|
  if (Z_2 7 (ix x2_3)) = ((10 : Int32) + (Z_2 31 (ix a1))) then (
    nj (fun (x3_80 : Int32) =>
      nm (x3_80 - (1 : Int32)) fun (x4_6 : Int32) =>
      nj (fun (x3_132 : Int32) =>
        nj (fun (t2_146 : Int32) =>
          nm (zset Z_2 7 (ix x2_3) t2_146) fun (Z_7 : zT) =>
          some Z_7) fun j146 =>
        if 0 ≤ x3_132 then (
          j146 x3_132)
        else (
          j146 (0 : Int32))) fun j132 =>
      nj (it1 (lX4_feels_85 a1 Z_2 j132) FU) fun k85 =>
      k85 x3_80 x4_6) fun j80 =>
    nj (it0 (lX4_feels_39 a1 Z_2 j80) FU) fun k39 =>
    k39 (2 : Int32))
  else (
    some Z_2)
def fX4_ends (Z : zT) (a1 : Int32) : Option (zT) :=
  gd (inb a1 4) <|
  nj (fun (Z33 : zT) =>
    nm (zset Z33 28 (ix a1) (0 : Int32)) fun (Z_2 : zT) =>
    some Z_2) fun j33 =>
  if (Z 28 (ix a1)) = (1 : Int32) then (
    bd (fX4_handsOver Z a1) fun (Z_8 : zT) =>
    j33 Z_8)
  else (
    if (Z 28 (ix a1)) = (3 : Int32) then (
      bd (fX4_feels Z a1) fun (Z_6 : zT) =>
      j33 Z_6)
    else (
      j33 Z))
def fX4_holder (Z : zT) (a1 a2 : Int32) : Option (Int32) :=
  bd (fX4_thing Z a1 a2) fun (r_2 : Int32) =>
  if (3 : Int32) ≤ r_2 then (
    some (-1 : Int32))
  else (
    bd (fX4_thing Z a1 a2) fun (r_5 : Int32) =>
    some (((3 : Int32) * a1) + r_5))
def fX4_sees (Z : zT) (a1 a2 : Int32) : Option (zT) :=
  bd (fX4_holder Z a1 (0 : Int32)) fun (r_2 : Int32) =>
  if r_2 = (-1 : Int32) then (
    some Z)
  else (
    if (jr (Z 16 0) (240 : Int32)) < (Z 17 0) then (
      gd (inb a2 10) <|
      nj (fun (t2_53 : Int32) =>
        gd (inb (((10 : Int32) * r_2) + a2) 120) <|
        nm (zset Z 9 (ix (((10 : Int32) * r_2) + a2)) t2_53) fun (Z_7 : zT) =>
        nm (zset Z_7 12 (ix (((10 : Int32) * r_2) + a2)) r_2) fun (Z_8 : zT) =>
        nm (zset Z_8 13 (ix (((10 : Int32) * r_2) + a2)) (Z_8 16 0)) fun (Z_9 : zT) =>
        nm (zset Z_9 14 (ix (((10 : Int32) * r_2) + a2)) (0 : Int32)) fun (Z_10 : zT) =>
        nm (zset Z_10 15 (ix (((10 : Int32) * r_2) + a2)) (0 : Int32)) fun (Z_11 : zT) =>
        some Z_11) fun j53 =>
      if (Z 8 (ix a2)) = (1 : Int32) then (
        j53 (1 : Int32))
      else (
        j53 (2 : Int32)))
    else (
      some Z))
def fX4_says (Z : zT) (a1 a2 a3 a4 : Int32) : Option (zT) :=
  bd (fX4_holder Z a1 (2 : Int32)) fun (r_2 : Int32) =>
  bd (fX4_holder Z a3 (1 : Int32)) fun (r_4 : Int32) =>
  if r_2 = (-1 : Int32) then (
    some Z)
  else (
    if r_4 = (-1 : Int32) then (
      some Z)
    else (
      gd (inb (((10 : Int32) * r_2) + a2) 120) <|
      if (Z 9 (ix (((10 : Int32) * r_2) + a2))) = 0 then (
        some Z)
      else (
        nj (fun (t0_78 : Int32) =>
          nj (fun (Z164 : zT) =>
            gd (inb (((4 : Int32) * r_4) + a1) 48) <|
            if (Z164 10 (ix (((4 : Int32) * r_4) + a1))) = 0 then (
              some Z164)
            else (
              nm (((10 : Int32) * r_2) + a2) fun (x8_11 : Int32) =>
              nm (((10 : Int32) * r_4) + a2) fun (x9_12 : Int32) =>
              gd (inb x8_11 120) <|
              nj (fun (t1_214 : Int32) =>
                nm ((Z164 15 (ix x8_11)) + t1_214) fun (x10_14 : Int32) =>
                gd (inb x9_12 120) <|
                nm (zset Z164 9 (ix x9_12) t0_78) fun (Z_16 : zT) =>
                nm (zset Z_16 12 (ix x9_12) (Z_16 12 (ix x8_11))) fun (Z_17 : zT) =>
                nm (zset Z_17 13 (ix x9_12) (Z_17 13 (ix x8_11))) fun (Z_18 : zT) =>
                nm (zset Z_18 14 (ix x9_12) ((Z_18 14 (ix x8_11)) + (1 : Int32))) fun (Z_19 : zT) =>
                nm (zset Z_19 15 (ix x9_12) x10_14) fun (Z_20 : zT) =>
                some Z_20) fun j214 =>
              if a4 = 0 then (
                j214 (0 : Int32))
              else (
                j214 (1 : Int32)))) fun j164 =>
          if (99 : Int32) ≤ (Z 22 0) then (
            j164 Z)
          else (
            gd (inb (Z 22 0) 99) <|
            nm (zset Z 23 (ix (Z 22 0)) r_2) fun (Z_24 : zT) =>
            gd (inb (Z_24 22 0) 99) <|
            nm (zset Z_24 24 (ix (Z_24 22 0)) a2) fun (Z_26 : zT) =>
            nj (fun (t2_129 : Int32) =>
              gd (inb (Z_26 22 0) 99) <|
              nm (zset Z_26 25 (ix (Z_26 22 0)) t2_129) fun (Z_28 : zT) =>
              gd (inb (Z_28 22 0) 99) <|
              nm (zset Z_28 26 (ix (Z_28 22 0)) r_4) fun (Z_30 : zT) =>
              gd (inb (Z_30 22 0) 99) <|
              nm (zset Z_30 27 (ix (Z_30 22 0)) (Z_30 16 0)) fun (Z_32 : zT) =>
              nm (zset Z_32 22 0 ((Z_32 22 0) + (1 : Int32))) fun (Z_33 : zT) =>
              j164 Z_33) fun j129 =>
            if t0_78 = (1 : Int32) then (
              j129 (1 : Int32))
            else (
              j129 (0 : Int32)))) fun j78 =>
        if a4 = 0 then (
          j78 (Z 9 (ix (((10 : Int32) * r_2) + a2))))
        else (
          j78 ((3 : Int32) - (Z 9 (ix (((10 : Int32) * r_2) + a2))))))))
def fX4_begins (Z : zT) (a1 : Int32) : Option (zT) :=
  gd (inb a1 4) <|
  nm (((120 : Int32) * a1) + ((4 : Int32) * (Z 45 (ix a1)))) fun (x2_2 : Int32) =>
  gd (inb x2_2 600) <|
  nm (Z 43 (ix x2_2)) fun (x3_4 : Int32) =>
  gd (inb (x2_2 + (1 : Int32)) 600) <|
  nm (Z 43 (ix (x2_2 + (1 : Int32)))) fun (x4_6 : Int32) =>
  gd (inb (x2_2 + (2 : Int32)) 600) <|
  nm (Z 43 (ix (x2_2 + (2 : Int32)))) fun (x5_8 : Int32) =>
  nm (zset Z 45 (ix a1) ((Z 45 (ix a1)) + (1 : Int32))) fun (Z_9 : zT) =>
  nj (fun (Z67 : zT) =>
    nj (fun (Z96 : zT) =>
      nj (fun (t0_116 : Int32) =>
        nj (fun (Z165 : zT) (x6_165 : Int32) =>
          if x6_165 = 0 then (
            some Z165)
          else (
            nj (fun (t2_195 : Int32) =>
              nm (zset Z165 28 (ix a1) t2_195) fun (Z_11 : zT) =>
              nm (zset Z_11 30 (ix a1) x4_6) fun (Z_12 : zT) =>
              nm (zset Z_12 31 (ix a1) x5_8) fun (Z_13 : zT) =>
              nm (zset Z_13 29 (ix a1) (x6_165 - (1 : Int32))) fun (Z_14 : zT) =>
              if (Z_14 29 (ix a1)) = 0 then (
                bd (fX4_ends Z_14 a1) fun (Z_17 : zT) =>
                some Z_17)
              else (
                some Z_14)) fun j195 =>
            if x3_4 = (4 : Int32) then (
              j195 (2 : Int32))
            else (
              if x3_4 = (5 : Int32) then (
                j195 (3 : Int32))
              else (
                j195 (1 : Int32))))) fun j165 =>
        if x3_4 = 0 then (
          bd (fX4_thing Z96 a1 x4_6) fun (r_22 : Int32) =>
          if (3 : Int32) ≤ r_22 then (
            j165 Z96 t0_116)
          else (
            bd (fX4_thing Z96 a1 x4_6) fun (r_25 : Int32) =>
            if r_25 = x5_8 then (
              j165 Z96 t0_116)
            else (
              nm (Z96 3 (ix a1)) fun (x6_27 : Int32) =>
              gd (inb (((3 : Int32) * a1) + x4_6) 12) <|
              nm (zset Z96 7 (ix (((3 : Int32) * a1) + x4_6)) (3 : Int32)) fun (Z_29 : zT) =>
              j165 Z_29 x6_27)))
        else (
          j165 Z96 t0_116)) fun j116 =>
      if x3_4 = (4 : Int32) then (
        j116 x4_6)
      else (
        if x3_4 = (5 : Int32) then (
          j116 (2 : Int32))
        else (
          j116 (0 : Int32)))) fun j96 =>
    nj (
      nj (fun (t4_93 : Int32) =>
        bd (fX4_says Z67 a1 x4_6 x5_8 t4_93) fun (Z_33 : zT) =>
        j96 Z_33) fun j93 =>
      if x3_4 = (3 : Int32) then (
        j93 (1 : Int32))
      else (
        j93 (0 : Int32))) fun j77 =>
    if x3_4 = (2 : Int32) then (
      j77)
    else (
      if x3_4 = (3 : Int32) then (
        j77)
      else (
        j96 Z67))) fun j67 =>
  if x3_4 = (1 : Int32) then (
    bd (fX4_sees Z_9 a1 x4_6) fun (Z_39 : zT) =>
    j67 Z_39)
  else (
    j67 Z_9)
def lX4_sounds_37 (x1_35 : Int32) (s37 : zT → Int32 → Option (zT)) (Z37 : zT) (x2_37 : Int32) : Option (zT) :=
  if (Z37 2 0) ≤ x2_37 then (
    some Z37)
  else (
    bd (fX4_holder Z37 x2_37 (1 : Int32)) fun (r_3 : Int32) =>
    nj (fun (Z88 : zT) =>
      nm (x2_37 + (1 : Int32)) fun (x2_4 : Int32) =>
      s37 Z88 x2_4) fun j88 =>
    if r_3 = (-1 : Int32) then (
      gd (inb x2_37 4) <|
      nm (zset Z37 21 (ix x2_37) ((Z37 21 (ix x2_37)) + x1_35)) fun (Z_9 : zT) =>
      j88 Z_9)
    else (
      gd (inb r_3 12) <|
      nm (zset Z37 20 (ix r_3) ((Z37 20 (ix r_3)) + x1_35)) fun (Z_7 : zT) =>
      j88 Z_7))
def lX4_sounds_4 (Z : zT) (j35 : Int32 → Option (zT)) (s4 : Int32 → Int32 → Option (zT)) (x1_4 : Int32) (x2_4 : Int32) : Option (zT) :=
  if (Z 18 0) ≤ x2_4 then (
    j35 x1_4)
  else (
    gd (inb x2_4 20) <|
    nj (fun (x1_29 : Int32) =>
      nm (x2_4 + (1 : Int32)) fun (x2_12 : Int32) =>
      s4 x1_29 x2_12) fun j29 =>
    if (Z 19 (ix x2_4)) = (Z 16 0) then (
      nm (x1_4 + (1 : Int32)) fun (x1_14 : Int32) =>
      j29 x1_14)
    else (
      j29 x1_4))
def fX4_sounds (Z : zT) : Option (zT) :=
  nj (fun (x1_35 : Int32) =>
    nj (it1 (lX4_sounds_37 x1_35) FU) fun k37 =>
    k37 Z (0 : Int32)) fun j35 =>
  nj (it1 (lX4_sounds_4 Z j35) FU) fun k4 =>
  k4 (0 : Int32) (0 : Int32)
def lX4_goesBy_112 (x1_102 : Int32) (j165 : zT → Option (zT)) (s112 : zT → Int32 → Option (zT)) (Z112 : zT) (x2_112 : Int32) : Option (zT) :=
  if (3 : Int32) ≤ x2_112 then (
    j165 Z112)
  else (
    bd (fX4_holder Z112 x1_102 x2_112) fun (r_8 : Int32) =>
    nj (fun (Z159 : zT) =>
      nm (x2_112 + (1 : Int32)) fun (x2_9 : Int32) =>
      s112 Z159 x2_9) fun j159 =>
    if r_8 = (-1 : Int32) then (
      j159 Z112)
    else (
      bd (fX4_holder Z112 x1_102 x2_112) fun (r_12 : Int32) =>
      bd (fX4_holder Z112 x1_102 x2_112) fun (r_14 : Int32) =>
      gd (inb (((3 : Int32) * r_14) + x2_112) 36) <|
      gd (inb (((3 : Int32) * r_12) + x2_112) 36) <|
      nm (zset Z112 11 (ix (((3 : Int32) * r_12) + x2_112)) ((Z112 11 (ix (((3 : Int32) * r_14) + x2_112))) + (1 : Int32))) fun (Z_17 : zT) =>
      j159 Z_17))
def lX4_goesBy_102 (j171 : zT → Option (zT)) (s102 : zT → Int32 → Option (zT)) (Z102 : zT) (x1_102 : Int32) : Option (zT) :=
  if (Z102 2 0) ≤ x1_102 then (
    j171 Z102)
  else (
    nj (fun (Z165 : zT) =>
      nm (x1_102 + (1 : Int32)) fun (x1_5 : Int32) =>
      s102 Z165 x1_5) fun j165 =>
    nj (it1 (lX4_goesBy_112 x1_102 j165) FU) fun k112 =>
    k112 Z102 (0 : Int32))
def lX4_goesBy_26 (j100 : zT → Option (zT)) (s26 : zT → Int32 → Option (zT)) (Z26 : zT) (x1_26 : Int32) : Option (zT) :=
  if (Z26 2 0) ≤ x1_26 then (
    j100 Z26)
  else (
    gd (inb x1_26 4) <|
    nj (fun (Z94 : zT) =>
      nm (x1_26 + (1 : Int32)) fun (x1_20 : Int32) =>
      s26 Z94 x1_20) fun j94 =>
    if (Z26 29 (ix x1_26)) ≤ 0 then (
      if (Z26 44 (ix x1_26)) ≤ (Z26 45 (ix x1_26)) then (
        j94 Z26)
      else (
        bd (fX4_begins Z26 x1_26) fun (Z_24 : zT) =>
        j94 Z_24))
    else (
      nm (zset Z26 29 (ix x1_26) ((Z26 29 (ix x1_26)) - (1 : Int32))) fun (Z_25 : zT) =>
      if (Z_25 29 (ix x1_26)) = 0 then (
        bd (fX4_ends Z_25 x1_26) fun (Z_28 : zT) =>
        j94 Z_28)
      else (
        j94 Z_25)))
def fX4_goesBy (Z : zT) : Option (zT) :=
  nj (fun (Z24 : zT) =>
    nj (fun (Z100 : zT) =>
      nj (fun (Z171 : zT) =>
        bd (fX4_sounds Z171) fun (Z_2 : zT) =>
        nm (zset Z_2 16 0 ((Z_2 16 0) + (1 : Int32))) fun (Z_3 : zT) =>
        some Z_3) fun j171 =>
      nj (it1 (lX4_goesBy_102 j171) FU) fun k102 =>
      k102 Z100 (0 : Int32)) fun j100 =>
    nj (it1 (lX4_goesBy_26 j100) FU) fun k26 =>
    k26 Z24 (0 : Int32)) fun j24 =>
  if (jr (Z 16 0) (240 : Int32)) = 0 then (
    bdp (fX4_draw Z (61 : Int32)) fun (r_31 : Int32) (Z_32 : zT) =>
    nm (zset Z_32 17 0 ((120 : Int32) + r_31)) fun (Z_33 : zT) =>
    j24 Z_33)
  else (
    j24 Z)
def lX4_minutes_33 (a1 : Int32) (j48 : zT → Option (Int32 × zT)) (s33 : zT → Int32 → Option (Int32 × zT)) (Z33 : zT) (x2_33 : Int32) : Option (Int32 × zT) :=
  if a1 ≤ x2_33 then (
    j48 Z33)
  else (
    bd (fX4_goesBy Z33) fun (Z_8 : zT) =>
    nm (x2_33 + (1 : Int32)) fun (x2_9 : Int32) =>
    s33 Z_8 x2_9)
def fX4_minutes (Z : zT) (a1 : Int32) : Option (Int32 × zT) :=
  nm (zset Z 0 0 (0 : Int32)) fun (Z_1 : zT) =>
  bd (fX4_isIn Z_1 a1 (1 : Int32) (1000 : Int32)) fun (r_3 : Int32) =>
  if r_3 = 0 then (
    some ((-1 : Int32), Z_1))
  else (
    if ((Z_1 16 0) + a1) ≤ (99999 : Int32) then (
      nj (fun (Z48 : zT) =>
        some ((Z48 16 0), Z48)) fun j48 =>
      nj (it1 (lX4_minutes_33 a1 j48) FU) fun k33 =>
      k33 Z_1 (0 : Int32))
    else (
      some ((-1 : Int32), Z_1)))
def fX4_isThing (Z : zT) (a1 : Int32) : Option (Int32) :=
  nj (
    some (0 : Int32)) fun j13 =>
  if a1 < 0 then (
    j13)
  else (
    if (3 : Int32) ≤ a1 then (
      j13)
    else (
      some (1 : Int32)))
def fX4_where (Z : zT) (a1 a2 : Int32) : Option (Int32 × zT) :=
  nm (zset Z 0 0 (0 : Int32)) fun (Z_1 : zT) =>
  bd (fX4_isThree Z_1 a1) fun (r_3 : Int32) =>
  nj (
    some ((-1 : Int32), Z_1)) fun j30 =>
  if r_3 = 0 then (
    j30)
  else (
    bd (fX4_isThing Z_1 a2) fun (r_6 : Int32) =>
    if r_6 = 0 then (
      j30)
    else (
      bd (fX4_thing Z_1 a1 a2) fun (r_9 : Int32) =>
      some (r_9, Z_1)))
def fX4_knows (Z : zT) (a1 a2 : Int32) : Option (Int32 × zT) :=
  nm (zset Z 0 0 (0 : Int32)) fun (Z_1 : zT) =>
  bd (fX4_isPerson Z_1 a1) fun (r_3 : Int32) =>
  nj (
    some ((-1 : Int32), Z_1)) fun j35 =>
  if r_3 = 0 then (
    j35)
  else (
    bd (fX4_isFact Z_1 a2) fun (r_6 : Int32) =>
    if r_6 = 0 then (
      j35)
    else (
      gd (inb (((10 : Int32) * a1) + a2) 120) <|
      some ((Z_1 9 (ix (((10 : Int32) * a1) + a2))), Z_1)))
def fX4_held (Z : zT) (a1 a2 : Int32) : Option (Int32 × zT) :=
  nm (zset Z 0 0 (0 : Int32)) fun (Z_1 : zT) =>
  bd (fX4_isPerson Z_1 a1) fun (r_3 : Int32) =>
  nj (
    some ((-1 : Int32), Z_1)) fun j34 =>
  if r_3 = 0 then (
    j34)
  else (
    bd (fX4_isThing Z_1 a2) fun (r_6 : Int32) =>
    if r_6 = 0 then (
      j34)
    else (
      gd (inb (((3 : Int32) * a1) + a2) 36) <|
      some ((Z_1 11 (ix (((3 : Int32) * a1) + a2))), Z_1)))
def fX4_of (Z : zT) (a1 a2 : Int32) : Option (Int32 × zT) :=
  nm (zset Z 0 0 (0 : Int32)) fun (Z_1 : zT) =>
  bd (fX4_isThree Z_1 a1) fun (r_3 : Int32) =>
  if r_3 = 0 then (
    some ((-1 : Int32), Z_1))
  else (
    if a2 = 0 then (
      gd (inb a1 4) <|
      some ((Z_1 3 (ix a1)), Z_1))
    else (
      if a2 = (1 : Int32) then (
        gd (inb a1 4) <|
        some ((Z_1 4 (ix a1)), Z_1))
      else (
        if a2 = (2 : Int32) then (
          gd (inb a1 4) <|
          some ((Z_1 5 (ix a1)), Z_1))
        else (
          if a2 = (3 : Int32) then (
            gd (inb a1 4) <|
            some ((Z_1 6 (ix a1)), Z_1))
          else (
            if a2 = (4 : Int32) then (
              gd (inb a1 4) <|
              some ((Z_1 44 (ix a1)), Z_1))
            else (
              if a2 = (5 : Int32) then (
                gd (inb a1 4) <|
                some ((Z_1 45 (ix a1)), Z_1))
              else (
                if a2 = (6 : Int32) then (
                  gd (inb a1 4) <|
                  some ((Z_1 29 (ix a1)), Z_1))
                else (
                  if a2 = (7 : Int32) then (
                    gd (inb a1 4) <|
                    some ((Z_1 21 (ix a1)), Z_1))
                  else (
                    some ((-1 : Int32), Z_1))))))))))
def fX4_book (Z : zT) (a1 a2 : Int32) : Option (Int32 × zT) :=
  nm (zset Z 0 0 (0 : Int32)) fun (Z_1 : zT) =>
  bd (fX4_isIn Z_1 a1 (0 : Int32) ((Z_1 22 0) - (1 : Int32))) fun (r_3 : Int32) =>
  if r_3 = 0 then (
    some ((-1 : Int32), Z_1))
  else (
    if a2 = 0 then (
      gd (inb a1 99) <|
      some ((Z_1 23 (ix a1)), Z_1))
    else (
      if a2 = (1 : Int32) then (
        gd (inb a1 99) <|
        some ((Z_1 24 (ix a1)), Z_1))
      else (
        if a2 = (2 : Int32) then (
          gd (inb a1 99) <|
          some ((Z_1 25 (ix a1)), Z_1))
        else (
          if a2 = (3 : Int32) then (
            gd (inb a1 99) <|
            some ((Z_1 26 (ix a1)), Z_1))
          else (
            if a2 = (4 : Int32) then (
              gd (inb a1 99) <|
              some ((Z_1 27 (ix a1)), Z_1))
            else (
              some ((-1 : Int32), Z_1)))))))
def fX4_origin (Z : zT) (a1 a2 a3 : Int32) : Option (Int32 × zT) :=
  nm (zset Z 0 0 (0 : Int32)) fun (Z_1 : zT) =>
  bd (fX4_isPerson Z_1 a1) fun (r_3 : Int32) =>
  if r_3 = 0 then (
    some ((-1 : Int32), Z_1))
  else (
    bd (fX4_isFact Z_1 a2) fun (r_6 : Int32) =>
    if r_6 = 0 then (
      some ((-1 : Int32), Z_1))
    else (
      gd (inb (((10 : Int32) * a1) + a2) 120) <|
      if (Z_1 9 (ix (((10 : Int32) * a1) + a2))) = 0 then (
        some ((-1 : Int32), Z_1))
      else (
        nm (((10 : Int32) * a1) + a2) fun (x4_10 : Int32) =>
        if a3 = 0 then (
          gd (inb x4_10 120) <|
          some ((Z_1 12 (ix x4_10)), Z_1))
        else (
          if a3 = (1 : Int32) then (
            gd (inb x4_10 120) <|
            some ((Z_1 13 (ix x4_10)), Z_1))
          else (
            if a3 = (2 : Int32) then (
              gd (inb x4_10 120) <|
              some ((Z_1 14 (ix x4_10)), Z_1))
            else (
              if a3 = (3 : Int32) then (
                gd (inb x4_10 120) <|
                some ((Z_1 15 (ix x4_10)), Z_1))
              else (
                some ((-1 : Int32), Z_1))))))))
def fX4_noise (Z : zT) (a1 : Int32) : Option (Int32 × zT) :=
  nm (zset Z 0 0 (0 : Int32)) fun (Z_1 : zT) =>
  bd (fX4_isIn Z_1 a1 (Z_1 16 0) (99999 : Int32)) fun (r_3 : Int32) =>
  if r_3 = 0 then (
    some ((-1 : Int32), Z_1))
  else (
    if (Z_1 18 0) = (20 : Int32) then (
      some ((-1 : Int32), Z_1))
    else (
      gd (inb (Z_1 18 0) 20) <|
      nm (zset Z_1 19 (ix (Z_1 18 0)) a1) fun (Z_7 : zT) =>
      nm (zset Z_7 18 0 ((Z_7 18 0) + (1 : Int32))) fun (Z_8 : zT) =>
      some (((Z_8 18 0) - (1 : Int32)), Z_8)))
def fX4_heard (Z : zT) (a1 : Int32) : Option (Int32 × zT) :=
  nm (zset Z 0 0 (0 : Int32)) fun (Z_1 : zT) =>
  bd (fX4_isPerson Z_1 a1) fun (r_3 : Int32) =>
  if r_3 = 0 then (
    some ((-1 : Int32), Z_1))
  else (
    gd (inb a1 12) <|
    some ((Z_1 20 (ix a1)), Z_1))
def lX4_knowersOf_5 (Z : zT) (a1 : Int32) (a2 : Int32) (s5 : Int32 → Int32 → Option (Int32)) (x3_5 : Int32) (x4_5 : Int32) : Option (Int32) :=
  if (3 : Int32) ≤ x4_5 then (
    some x3_5)
  else (
    gd (inb (((10 : Int32) * (((3 : Int32) * a1) + x4_5)) + a2) 120) <|
    nj (fun (x3_37 : Int32) =>
      nm (x4_5 + (1 : Int32)) fun (x4_3 : Int32) =>
      s5 x3_37 x4_3) fun j37 =>
    if (Z 9 (ix (((10 : Int32) * (((3 : Int32) * a1) + x4_5)) + a2))) = 0 then (
      j37 x3_5)
    else (
      nm (x3_5 ||| (js (1 : Int32) x4_5)) fun (x3_5 : Int32) =>
      j37 x3_5))
def fX4_knowersOf (Z : zT) (a1 a2 : Int32) : Option (Int32) :=
  nj (it1 (lX4_knowersOf_5 Z a1 a2) FU) fun k5 =>
  k5 (0 : Int32) (0 : Int32)
def lX4_placesOf_4 (Z : zT) (a1 : Int32) (s4 : Int32 → Int32 → Option (Int32)) (x2_4 : Int32) (x3_4 : Int32) : Option (Int32) :=
  if (3 : Int32) ≤ x3_4 then (
    some x2_4)
  else (
    bd (fX4_thing Z a1 x3_4) fun (r_3 : Int32) =>
    nj (fun (t1_57 : Int32) =>
      nm (((3 : Int32) * x2_4) + t1_57) fun (x2_4 : Int32) =>
      nm (x3_4 + (1 : Int32)) fun (x3_5 : Int32) =>
      s4 x2_4 x3_5) fun j57 =>
    if (3 : Int32) ≤ r_3 then (
      nj (
        j57 (0 : Int32)) fun j56 =>
      if r_3 = (3 : Int32) then (
        gd (inb a1 4) <|
        if (Z 28 (ix a1)) = (1 : Int32) then (
          j57 (Z 31 (ix a1)))
        else (
          j56))
      else (
        j56))
    else (
      j57 r_3))
def fX4_placesOf (Z : zT) (a1 : Int32) : Option (Int32) :=
  nj (it1 (lX4_placesOf_4 Z a1) FU) fun k4 =>
  k4 (0 : Int32) (0 : Int32)
def fX4_memberOf (Z : zT) (a1 a2 : Int32) : Option (Int32) :=
  if a2 = 0 then (
    some (a1 / (9 : Int32)))
  else (
    if a2 = (1 : Int32) then (
      some (jr (a1 / (3 : Int32)) (3 : Int32)))
    else (
      some (jr a1 (3 : Int32))))
def fX4_movedTo (Z : zT) (a1 a2 a3 : Int32) : Option (Int32) :=
  bd (fX4_memberOf Z a1 a2) fun (r_2 : Int32) =>
  nj (fun (t2_28 : Int32) =>
    some (a1 + ((a3 - r_2) * t2_28))) fun j28 =>
  if a2 = 0 then (
    j28 (9 : Int32))
  else (
    if a2 = (1 : Int32) then (
      j28 (3 : Int32))
    else (
      j28 (1 : Int32)))
def fX4_comes (Z : zT) (a1 a2 : Int32) : Option (zT) :=
  gd (inb a1 46656) <|
  if a2 < (Z 46 (ix a1)) then (
    nm (zset Z 46 (ix a1) a2) fun (Z_3 : zT) =>
    nm (zset Z_3 47 0 (1 : Int32)) fun (Z_4 : zT) =>
    some Z_4)
  else (
    some Z)
def lX4_errandFrom_24 (a1 : Int32) (a2 : Int32) (x4_1 : Int32) (x5_2 : Int32) (x6_15 : Int32) (j77 : zT → Option (zT)) (s24 : zT → Int32 → Option (zT)) (Z24 : zT) (x7_24 : Int32) : Option (zT) :=
  if (3 : Int32) ≤ x7_24 then (
    j77 Z24)
  else (
    bd (fX4_memberOf Z24 x4_1 x6_15) fun (r_19 : Int32) =>
    nj (fun (Z71 : zT) =>
      nm (x7_24 + (1 : Int32)) fun (x7_20 : Int32) =>
      s24 Z71 x7_20) fun j71 =>
    if x7_24 = r_19 then (
      j71 Z24)
    else (
      bd (fX4_movedTo Z24 x4_1 x6_15 x7_24) fun (r_23 : Int32) =>
      gd (inb a1 46656) <|
      bd (fX4_comes Z24 (((27 : Int32) * x5_2) + r_23) ((Z24 46 (ix a1)) + a2)) fun (Z_26 : zT) =>
      j71 Z_26))
def lX4_errandFrom_15 (a1 : Int32) (a2 : Int32) (x4_1 : Int32) (x5_2 : Int32) (j83 : zT → Option (zT)) (s15 : zT → Int32 → Option (zT)) (Z15 : zT) (x6_15 : Int32) : Option (zT) :=
  if (3 : Int32) ≤ x6_15 then (
    j83 Z15)
  else (
    nj (fun (Z77 : zT) =>
      nm (x6_15 + (1 : Int32)) fun (x6_16 : Int32) =>
      s15 Z77 x6_16) fun j77 =>
    nj (it1 (lX4_errandFrom_24 a1 a2 x4_1 x5_2 x6_15 j77) FU) fun k24 =>
    k24 Z15 (0 : Int32))
def fX4_errandFrom (Z : zT) (a1 a2 a3 : Int32) : Option (zT) :=
  nm (jr a1 (27 : Int32)) fun (x4_1 : Int32) =>
  nm (a1 / (27 : Int32)) fun (x5_2 : Int32) =>
  nj (fun (Z83 : zT) =>
    bd (fX4_memberOf Z83 x4_1 (0 : Int32)) fun (r_4 : Int32) =>
    gd (inb a1 46656) <|
    bd (fX4_comes Z83 (((27 : Int32) * (x5_2 ||| (js (1 : Int32) r_4))) + x4_1) ((Z83 46 (ix a1)) + a3)) fun (Z_7 : zT) =>
    bd (fX4_memberOf Z_7 x4_1 (2 : Int32)) fun (r_9 : Int32) =>
    if ((jsr x5_2 r_9) &&& (1 : Int32)) = (1 : Int32) then (
      bd (fX4_memberOf Z_7 x4_1 (1 : Int32)) fun (r_12 : Int32) =>
      bd (fX4_comes Z_7 (((27 : Int32) * (x5_2 ||| (js (1 : Int32) r_12))) + x4_1) ((Z_7 46 (ix a1)) + a3)) fun (Z_14 : zT) =>
      some Z_14)
    else (
      some Z_7)) fun j83 =>
  nj (it1 (lX4_errandFrom_15 a1 a2 x4_1 x5_2 j83) FU) fun k15 =>
  k15 Z (0 : Int32)
def lX4_findsErrand_115 (Z107 : zT) (j172 : Int32 → Option (Int32 × zT)) (s115 : Int32 → Int32 → Option (Int32 × zT)) (x5_115 : Int32) (x6_115 : Int32) : Option (Int32 × zT) :=
  if (216 : Int32) ≤ x6_115 then (
    j172 x5_115)
  else (
    bd (fX4_memberOf Z107 (jr x6_115 (27 : Int32)) (2 : Int32)) fun (r_10 : Int32) =>
    nj (fun (x5_166 : Int32) =>
      nm (x6_115 + (1 : Int32)) fun (x6_11 : Int32) =>
      s115 x5_166 x6_11) fun j166 =>
    if ((jsr (x6_115 / (27 : Int32)) r_10) &&& (1 : Int32)) = (1 : Int32) then (
      gd (inb x6_115 46656) <|
      if x5_115 ≤ (Z107 46 (ix x6_115)) then (
        j166 x5_115)
      else (
        nm (Z107 46 (ix x6_115)) fun (x5_15 : Int32) =>
        j166 x5_15))
    else (
      j166 x5_115))
def lX4_findsErrand_68 (a3 : Int32) (a4 : Int32) (j104 : zT → Option (Int32 × zT)) (s68 : zT → Int32 → Option (Int32 × zT)) (Z68 : zT) (x5_68 : Int32) : Option (Int32 × zT) :=
  if (216 : Int32) ≤ x5_68 then (
    j104 Z68)
  else (
    gd (inb x5_68 46656) <|
    nj (fun (Z98 : zT) =>
      nm (x5_68 + (1 : Int32)) fun (x5_20 : Int32) =>
      s68 Z98 x5_20) fun j98 =>
    if (1000000 : Int32) ≤ (Z68 46 (ix x5_68)) then (
      j98 Z68)
    else (
      bd (fX4_errandFrom Z68 x5_68 a3 a4) fun (Z_23 : zT) =>
      j98 Z_23))
def lX4_findsErrand_53 (a3 : Int32) (a4 : Int32) (j107 : zT → Option (Int32 × zT)) (s53 : zT → Option (Int32 × zT)) (Z53 : zT) : Option (Int32 × zT) :=
  if (Z53 47 0) = 0 then (
    j107 Z53)
  else (
    nm (zset Z53 47 0 (0 : Int32)) fun (Z_17 : zT) =>
    nj (fun (Z104 : zT) =>
      s53 Z104) fun j104 =>
    nj (it1 (lX4_findsErrand_68 a3 a4 j104) FU) fun k68 =>
    k68 Z_17 (0 : Int32))
def lX4_findsErrand_3 (j27 : zT → Option (Int32 × zT)) (s3 : zT → Int32 → Option (Int32 × zT)) (Z3 : zT) (x5_3 : Int32) : Option (Int32 × zT) :=
  if (216 : Int32) ≤ x5_3 then (
    j27 Z3)
  else (
    gd (inb x5_3 46656) <|
    nm (zset Z3 46 (ix x5_3) (1000000 : Int32)) fun (Z_26 : zT) =>
    nm (x5_3 + (1 : Int32)) fun (x5_27 : Int32) =>
    s3 Z_26 x5_27)
def fX4_findsErrand (Z : zT) (a1 a2 a3 a4 : Int32) : Option (Int32 × zT) :=
  nj (fun (Z27 : zT) =>
    bd (fX4_knowersOf Z27 a1 a2) fun (r_2 : Int32) =>
    bd (fX4_placesOf Z27 a1) fun (r_4 : Int32) =>
    gd (inb (((27 : Int32) * r_2) + r_4) 46656) <|
    nm (zset Z27 46 (ix (((27 : Int32) * r_2) + r_4)) (0 : Int32)) fun (Z_6 : zT) =>
    nm (zset Z_6 47 0 (1 : Int32)) fun (Z_7 : zT) =>
    nj (fun (Z107 : zT) =>
      nj (fun (x5_172 : Int32) =>
        some ((x5_172 + a4), Z107)) fun j172 =>
      nj (it1 (lX4_findsErrand_115 Z107 j172) FU) fun k115 =>
      k115 (1000000 : Int32) (0 : Int32)) fun j107 =>
    nj (it0 (lX4_findsErrand_53 a3 a4 j107) FU) fun k53 =>
    k53 Z_7) fun j27 =>
  nj (it1 (lX4_findsErrand_3 j27) FU) fun k3 =>
  k3 Z (0 : Int32)
def fX4_errand (Z : zT) (a1 a2 a3 a4 : Int32) : Option (Int32 × zT) :=
  nm (zset Z 0 0 (0 : Int32)) fun (Z_1 : zT) =>
  bd (fX4_isThree Z_1 a1) fun (r_3 : Int32) =>
  if r_3 = 0 then (
    some ((-1 : Int32), Z_1))
  else (
    bd (fX4_isFact Z_1 a2) fun (r_6 : Int32) =>
    if r_6 = 0 then (
      some ((-1 : Int32), Z_1))
    else (
      bd (fX4_isThree Z_1 a3) fun (r_9 : Int32) =>
      if r_9 = 0 then (
        some ((-1 : Int32), Z_1))
      else (
        if a1 = a3 then (
          some ((-1 : Int32), Z_1))
        else (
          bd (fX4_isIn Z_1 a4 (0 : Int32) (1 : Int32)) fun (r_13 : Int32) =>
          if r_13 = 0 then (
            some ((-1 : Int32), Z_1))
          else (
            bd (fX4_knowersOf Z_1 a3 a2) fun (r_16 : Int32) =>
            bd (fX4_placesOf Z_1 a3) fun (r_18 : Int32) =>
            bd (fX4_memberOf Z_1 r_18 (1 : Int32)) fun (r_20 : Int32) =>
            if ((jsr r_16 r_20) &&& (1 : Int32)) = (1 : Int32) then (
              some ((0 : Int32), Z_1))
            else (
              if a4 = 0 then (
                gd (inb a1 4) <|
                bdp (fX4_findsErrand Z_1 a1 a2 (Z_1 3 (ix a1)) (1 : Int32)) fun (r_28 : Int32) (Z_29 : zT) =>
                some (r_28, Z_29))
              else (
                bdp (fX4_findsErrand Z_1 a1 a2 (1 : Int32) (0 : Int32)) fun (r_24 : Int32) (Z_25 : zT) =>
                some (r_24, Z_25))))))))
def fX4_stateOf (Z : zT) (a1 a2 a3 : Int32) : Option (Int32) :=
  some ((((729 : Int32) * a3) + ((27 : Int32) * a1)) + a2)
def fX4_talks (Z : zT) (a1 a2 : Int32) : Option (zT) :=
  gd (inb a1 46656) <|
  if (1000000 : Int32) ≤ (Z 46 (ix a1)) then (
    nm (zset Z 46 (ix a1) a2) fun (Z_3 : zT) =>
    gd (inb (Z_3 49 0) 46656) <|
    nm (zset Z_3 48 (ix (Z_3 49 0)) a1) fun (Z_5 : zT) =>
    nm (zset Z_5 49 0 ((Z_5 49 0) + (1 : Int32))) fun (Z_6 : zT) =>
    some Z_6)
  else (
    some Z)
def lX4_talkFrom_42 (x2_1 : Int32) (x3_2 : Int32) (x4_3 : Int32) (x5_5 : Int32) (x6_33 : Int32) (j123 : zT → Option (zT)) (s42 : zT → Int32 → Option (zT)) (Z42 : zT) (x7_42 : Int32) : Option (zT) :=
  if (3 : Int32) ≤ x7_42 then (
    j123 Z42)
  else (
    bd (fX4_memberOf Z42 x3_2 x6_33) fun (r_31 : Int32) =>
    nj (fun (Z82 : zT) =>
      bd (fX4_memberOf Z82 x4_3 x6_33) fun (r_33 : Int32) =>
      nj (fun (Z117 : zT) =>
        nm (x7_42 + (1 : Int32)) fun (x7_34 : Int32) =>
        s42 Z117 x7_34) fun j117 =>
      if x7_42 = r_33 then (
        j117 Z82)
      else (
        bd (fX4_movedTo Z82 x4_3 x6_33 x7_42) fun (r_37 : Int32) =>
        bd (fX4_stateOf Z82 x3_2 r_37 x2_1) fun (r_39 : Int32) =>
        bd (fX4_talks Z82 r_39 x5_5) fun (Z_41 : zT) =>
        j117 Z_41)) fun j82 =>
    if x7_42 = r_31 then (
      j82 Z42)
    else (
      bd (fX4_movedTo Z42 x3_2 x6_33 x7_42) fun (r_44 : Int32) =>
      bd (fX4_stateOf Z42 r_44 x4_3 x2_1) fun (r_46 : Int32) =>
      bd (fX4_talks Z42 r_46 x5_5) fun (Z_48 : zT) =>
      j82 Z_48))
def lX4_talkFrom_33 (x2_1 : Int32) (x3_2 : Int32) (x4_3 : Int32) (x5_5 : Int32) (j129 : zT → Option (zT)) (s33 : zT → Int32 → Option (zT)) (Z33 : zT) (x6_33 : Int32) : Option (zT) :=
  if (3 : Int32) ≤ x6_33 then (
    j129 Z33)
  else (
    nj (fun (Z123 : zT) =>
      nm (x6_33 + (1 : Int32)) fun (x6_28 : Int32) =>
      s33 Z123 x6_28) fun j123 =>
    nj (it1 (lX4_talkFrom_42 x2_1 x3_2 x4_3 x5_5 x6_33 j123) FU) fun k42 =>
    k42 Z33 (0 : Int32))
def fX4_talkFrom (Z : zT) (a1 : Int32) : Option (zT) :=
  nm (a1 / (729 : Int32)) fun (x2_1 : Int32) =>
  nm (jr (a1 / (27 : Int32)) (27 : Int32)) fun (x3_2 : Int32) =>
  nm (jr a1 (27 : Int32)) fun (x4_3 : Int32) =>
  gd (inb a1 46656) <|
  nm ((Z 46 (ix a1)) + (1 : Int32)) fun (x5_5 : Int32) =>
  nj (fun (Z129 : zT) =>
    bd (fX4_memberOf Z129 x3_2 (1 : Int32)) fun (r_7 : Int32) =>
    nm (js (1 : Int32) r_7) fun (x6_8 : Int32) =>
    bd (fX4_memberOf Z129 x4_3 (1 : Int32)) fun (r_10 : Int32) =>
    nm (js (8 : Int32) r_10) fun (x7_11 : Int32) =>
    bd (fX4_memberOf Z129 x3_2 (2 : Int32)) fun (r_13 : Int32) =>
    nj (fun (t0_187 : Int32) =>
      if t0_187 = 0 then (
        some Z129)
      else (
        bd (fX4_stateOf Z129 x3_2 x4_3 (x2_1 ||| x6_8)) fun (r_16 : Int32) =>
        bd (fX4_talks Z129 r_16 x5_5) fun (Z_18 : zT) =>
        bd (fX4_stateOf Z_18 x3_2 x4_3 (x2_1 ||| x7_11)) fun (r_20 : Int32) =>
        bd (fX4_talks Z_18 r_20 x5_5) fun (Z_22 : zT) =>
        some Z_22)) fun j187 =>
    nj (
      j187 (1 : Int32)) fun j182 =>
    if ((jsr x2_1 r_13) &&& (1 : Int32)) = (1 : Int32) then (
      j182)
    else (
      bd (fX4_memberOf Z129 x4_3 (2 : Int32)) fun (r_25 : Int32) =>
      if ((jsr x2_1 ((3 : Int32) + r_25)) &&& (1 : Int32)) = (1 : Int32) then (
        j182)
      else (
        j187 (0 : Int32)))) fun j129 =>
  nj (it1 (lX4_talkFrom_33 x2_1 x3_2 x4_3 x5_5 j129) FU) fun k33 =>
  k33 Z (0 : Int32)
def lX4_talk_115 (j151 : zT → Int32 → Option (Int32 × zT)) (s115 : zT → Int32 → Option (Int32 × zT)) (Z115 : zT) (x5_115 : Int32) : Option (Int32 × zT) :=
  gd (inb x5_115 46656) <|
  if ((Z115 48 (ix x5_115)) / (729 : Int32)) = (63 : Int32) then (
    j151 Z115 x5_115)
  else (
    bd (fX4_talkFrom Z115 (Z115 48 (ix x5_115))) fun (Z_32 : zT) =>
    nm (x5_115 + (1 : Int32)) fun (x5_33 : Int32) =>
    s115 Z_32 x5_33)
def lX4_talk_63 (j86 : zT → Option (Int32 × zT)) (s63 : zT → Int32 → Option (Int32 × zT)) (Z63 : zT) (x5_63 : Int32) : Option (Int32 × zT) :=
  if (46656 : Int32) ≤ x5_63 then (
    j86 Z63)
  else (
    gd (inb x5_63 46656) <|
    nm (zset Z63 46 (ix x5_63) (1000000 : Int32)) fun (Z_36 : zT) =>
    nm (x5_63 + (1 : Int32)) fun (x5_37 : Int32) =>
    s63 Z_36 x5_37)
def fX4_talk (Z : zT) (a1 a2 a3 : Int32) : Option (Int32 × zT) :=
  nm (zset Z 0 0 (0 : Int32)) fun (Z_1 : zT) =>
  bd (fX4_isThree Z_1 a1) fun (r_3 : Int32) =>
  if r_3 = 0 then (
    some ((-1 : Int32), Z_1))
  else (
    bd (fX4_isThree Z_1 a2) fun (r_6 : Int32) =>
    if r_6 = 0 then (
      some ((-1 : Int32), Z_1))
    else (
      if a1 = a2 then (
        some ((-1 : Int32), Z_1))
      else (
        bd (fX4_isFact Z_1 a3) fun (r_10 : Int32) =>
        if r_10 = 0 then (
          some ((-1 : Int32), Z_1))
        else (
          bd (fX4_knowersOf Z_1 a1 a3) fun (r_13 : Int32) =>
          bd (fX4_knowersOf Z_1 a2 a3) fun (r_15 : Int32) =>
          nm (r_13 ||| (js r_15 (3 : Int32))) fun (x4_16 : Int32) =>
          if x4_16 = 0 then (
            some ((-1 : Int32), Z_1))
          else (
            nj (fun (Z86 : zT) =>
              nm (zset Z86 49 0 (0 : Int32)) fun (Z_18 : zT) =>
              bd (fX4_placesOf Z_18 a1) fun (r_20 : Int32) =>
              bd (fX4_placesOf Z_18 a2) fun (r_22 : Int32) =>
              bd (fX4_stateOf Z_18 r_20 r_22 x4_16) fun (r_24 : Int32) =>
              bd (fX4_talks Z_18 r_24 (0 : Int32)) fun (Z_26 : zT) =>
              nj (fun (Z151 : zT) (x5_151 : Int32) =>
                gd (inb x5_151 46656) <|
                gd (inb (Z151 48 (ix x5_151)) 46656) <|
                some ((Z151 46 (ix (Z151 48 (ix x5_151)))), Z151)) fun j151 =>
              nj (it1 (lX4_talk_115 j151) FU) fun k115 =>
              k115 Z_26 (0 : Int32)) fun j86 =>
            nj (it1 (lX4_talk_63 j86) FU) fun k63 =>
            k63 Z_1 (0 : Int32))))))
def fX4_danger (Z : zT) (a1 a2 a3 a4 : Int32) : Option (Int32 × zT) :=
  nm (zset Z 0 0 (0 : Int32)) fun (Z_1 : zT) =>
  bd (fX4_isIn Z_1 a1 (0 : Int32) (11 : Int32)) fun (r_3 : Int32) =>
  if r_3 = 0 then (
    some ((0 : Int32), Z_1))
  else (
    bd (fX4_isIn Z_1 a2 (0 : Int32) (2 : Int32)) fun (r_6 : Int32) =>
    if r_6 = 0 then (
      some ((0 : Int32), Z_1))
    else (
      bd (fX4_isThing Z_1 a3) fun (r_9 : Int32) =>
      if r_9 = 0 then (
        some ((0 : Int32), Z_1))
      else (
        bd (fX4_isIn Z_1 a4 (0 : Int32) (9 : Int32)) fun (r_12 : Int32) =>
        if r_12 = 0 then (
          some ((0 : Int32), Z_1))
        else (
          gd (inb ((((9 : Int32) * a1) + ((3 : Int32) * a2)) + a3) 108) <|
          nm (zset Z_1 50 (ix ((((9 : Int32) * a1) + ((3 : Int32) * a2)) + a3)) a4) fun (Z_15 : zT) =>
          some ((1 : Int32), Z_15)))))
def lX4_dangerAt_5 (Z : zT) (a1 : Int32) (a2 : Int32) (s5 : Int32 → Int32 → Option (Int32)) (x3_5 : Int32) (x4_5 : Int32) : Option (Int32) :=
  if (3 : Int32) ≤ x4_5 then (
    some x3_5)
  else (
    bd (fX4_memberOf Z a2 x4_5) fun (r_3 : Int32) =>
    gd (inb ((((9 : Int32) * a1) + ((3 : Int32) * r_3)) + x4_5) 108) <|
    nm (x3_5 + (Z 50 (ix ((((9 : Int32) * a1) + ((3 : Int32) * r_3)) + x4_5)))) fun (x3_5 : Int32) =>
    nm (x4_5 + (1 : Int32)) fun (x4_6 : Int32) =>
    s5 x3_5 x4_6)
def fX4_dangerAt (Z : zT) (a1 a2 : Int32) : Option (Int32) :=
  nj (it1 (lX4_dangerAt_5 Z a1 a2) FU) fun k5 =>
  k5 (0 : Int32) (0 : Int32)
def lX4_tolls_5 (Z : zT) (a1 : Int32) (a2 : Int32) (s5 : Int32 → Int32 → Option (Int32)) (x3_5 : Int32) (x4_5 : Int32) : Option (Int32) :=
  if (3 : Int32) ≤ x4_5 then (
    some x3_5)
  else (
    bd (fX4_memberOf Z a1 x4_5) fun (r_3 : Int32) =>
    bd (fX4_memberOf Z a2 x4_5) fun (r_5 : Int32) =>
    nj (fun (x3_32 : Int32) =>
      nm (x4_5 + (1 : Int32)) fun (x4_6 : Int32) =>
      s5 x3_32 x4_6) fun j32 =>
    if r_3 = r_5 then (
      j32 x3_5)
    else (
      nm (x3_5 + (1 : Int32)) fun (x3_8 : Int32) =>
      j32 x3_8))
def fX4_tolls (Z : zT) (a1 a2 : Int32) : Option (Int32) :=
  nj (it1 (lX4_tolls_5 Z a1 a2) FU) fun k5 =>
  k5 (0 : Int32) (0 : Int32)
def lX4_behind_8 (Z : zT) (a1 : Int32) (a2 : Int32) (a3 : Int32) (s8 : Int32 → Int32 → Option (Int32)) (x4_8 : Int32) (x5_8 : Int32) : Option (Int32) :=
  if (27 : Int32) ≤ x5_8 then (
    some x4_8)
  else (
    bd (fX4_tolls Z a2 x5_8) fun (r_3 : Int32) =>
    gd (inb (((27 : Int32) * (a1 + (1 : Int32))) + x5_8) 351) <|
    nm ((a3 * r_3) + (Z 51 (ix (((27 : Int32) * (a1 + (1 : Int32))) + x5_8)))) fun (x6_5 : Int32) =>
    nj (fun (t0_55 : Int32) =>
      nm (x5_8 + (1 : Int32)) fun (x5_6 : Int32) =>
      s8 t0_55 x5_6) fun j55 =>
    if x4_8 ≤ x6_5 then (
      j55 x4_8)
    else (
      j55 x6_5))
def fX4_behind (Z : zT) (a1 a2 a3 : Int32) : Option (Int32) :=
  nj (it1 (lX4_behind_8 Z a1 a2 a3) FU) fun k8 =>
  k8 (1000000 : Int32) (0 : Int32)
def lX4_way_200 (a2 : Int32) (Z122 : zT) (x4_177 : Int32) (x5_177 : Int32) (r_12 : Int32) (j240 : Int32 → Option (Int32 × zT)) (s200 : Int32 → Option (Int32 × zT)) (x7_200 : Int32) : Option (Int32 × zT) :=
  bd (fX4_tolls Z122 x4_177 x7_200) fun (r_15 : Int32) =>
  gd (inb (((27 : Int32) * (x5_177 + (1 : Int32))) + x7_200) 351) <|
  if ((a2 * r_15) + (Z122 51 (ix (((27 : Int32) * (x5_177 + (1 : Int32))) + x7_200)))) = r_12 then (
    j240 x7_200)
  else (
    nm (x7_200 + (1 : Int32)) fun (x7_18 : Int32) =>
    s200 x7_18)
def lX4_way_177 (a2 : Int32) (a3 : Int32) (Z122 : zT) (s177 : Int32 → Int32 → Option (Int32 × zT)) (x4_177 : Int32) (x5_177 : Int32) : Option (Int32 × zT) :=
  if (a3 - (10 : Int32)) ≤ x5_177 then (
    some (x4_177, Z122))
  else (
    bd (fX4_behind Z122 x5_177 x4_177 a2) fun (r_12 : Int32) =>
    nj (fun (x7_240 : Int32) =>
      nm (x5_177 + (1 : Int32)) fun (x5_13 : Int32) =>
      s177 x7_240 x5_13) fun j240 =>
    nj (it0 (lX4_way_200 a2 Z122 x4_177 x5_177 r_12 j240) FU) fun k200 =>
    k200 (0 : Int32))
def lX4_way_128 (Z122 : zT) (j162 : Int32 → Option (Int32 × zT)) (s128 : Int32 → Int32 → Option (Int32 × zT)) (x4_128 : Int32) (x5_128 : Int32) : Option (Int32 × zT) :=
  if (27 : Int32) ≤ x5_128 then (
    j162 x4_128)
  else (
    gd (inb x5_128 351) <|
    gd (inb x4_128 351) <|
    nj (fun (x4_156 : Int32) =>
      nm (x5_128 + (1 : Int32)) fun (x5_23 : Int32) =>
      s128 x4_156 x5_23) fun j156 =>
    if (Z122 51 (ix x4_128)) ≤ (Z122 51 (ix x5_128)) then (
      j156 x4_128)
    else (
      j156 x5_128))
def lX4_way_60 (a1 : Int32) (a2 : Int32) (x4_52 : Int32) (j116 : zT → Option (Int32 × zT)) (s60 : zT → Int32 → Option (Int32 × zT)) (Z60 : zT) (x5_60 : Int32) : Option (Int32 × zT) :=
  if (27 : Int32) ≤ x5_60 then (
    j116 Z60)
  else (
    bd (fX4_dangerAt Z60 x4_52 x5_60) fun (r_29 : Int32) =>
    nj (fun (t3_108 : Int32) =>
      gd (inb (((27 : Int32) * x4_52) + x5_60) 351) <|
      nm (zset Z60 51 (ix (((27 : Int32) * x4_52) + x5_60)) (r_29 + t3_108)) fun (Z_31 : zT) =>
      nm (x5_60 + (1 : Int32)) fun (x5_32 : Int32) =>
      s60 Z_31 x5_32) fun j108 =>
    if x4_52 = (a1 - (1 : Int32)) then (
      j108 (0 : Int32))
    else (
      bd (fX4_behind Z60 x4_52 x5_60 a2) fun (r_35 : Int32) =>
      j108 r_35))
def lX4_way_52 (a1 : Int32) (a2 : Int32) (j122 : zT → Option (Int32 × zT)) (s52 : zT → Int32 → Option (Int32 × zT)) (Z52 : zT) (x4_52 : Int32) : Option (Int32 × zT) :=
  if x4_52 < 0 then (
    j122 Z52)
  else (
    nj (fun (Z116 : zT) =>
      nm (x4_52 + (-1 : Int32)) fun (x4_26 : Int32) =>
      s52 Z116 x4_26) fun j116 =>
    nj (it1 (lX4_way_60 a1 a2 x4_52 j116) FU) fun k60 =>
    k60 Z52 (0 : Int32))
def fX4_way (Z : zT) (a1 a2 a3 : Int32) : Option (Int32 × zT) :=
  nm (zset Z 0 0 (0 : Int32)) fun (Z_1 : zT) =>
  bd (fX4_isIn Z_1 a1 (1 : Int32) (12 : Int32)) fun (r_3 : Int32) =>
  if r_3 = 0 then (
    some ((-1 : Int32), Z_1))
  else (
    bd (fX4_isIn Z_1 a2 (0 : Int32) (9 : Int32)) fun (r_6 : Int32) =>
    if r_6 = 0 then (
      some ((-1 : Int32), Z_1))
    else (
      nj (
        nm (a1 - (1 : Int32)) fun (x4_8 : Int32) =>
        nj (fun (Z122 : zT) =>
          nj (fun (x4_162 : Int32) =>
            if a3 = 0 then (
              gd (inb x4_162 351) <|
              some ((Z122 51 (ix x4_162)), Z122))
            else (
              nj (it1 (lX4_way_177 a2 a3 Z122) FU) fun k177 =>
              k177 x4_162 (0 : Int32))) fun j162 =>
          nj (it1 (lX4_way_128 Z122 j162) FU) fun k128 =>
          k128 (0 : Int32) (1 : Int32)) fun j122 =>
        nj (it1 (lX4_way_52 a1 a2 j122) FU) fun k52 =>
        k52 Z_1 x4_8) fun j47 =>
      if a3 = 0 then (
        j47)
      else (
        bd (fX4_isIn Z_1 a3 (10 : Int32) ((9 : Int32) + a1)) fun (r_38 : Int32) =>
        if r_38 = 0 then (
          some ((-1 : Int32), Z_1))
        else (
          j47))))
def fX4_spot (Z : zT) (a1 a2 a3 : Int32) : Option (Int32 × zT) :=
  nm (zset Z 0 0 (0 : Int32)) fun (Z_1 : zT) =>
  bd (fX4_isIn Z_1 a1 (0 : Int32) (8 : Int32)) fun (r_3 : Int32) =>
  if r_3 = 0 then (
    some ((0 : Int32), Z_1))
  else (
    bd (fX4_isIn Z_1 a2 (0 : Int32) (99 : Int32)) fun (r_6 : Int32) =>
    if r_6 = 0 then (
      some ((0 : Int32), Z_1))
    else (
      bd (fX4_isIn Z_1 a3 (1 : Int32) (9 : Int32)) fun (r_9 : Int32) =>
      if r_9 = 0 then (
        some ((0 : Int32), Z_1))
      else (
        gd (inb a1 9) <|
        nm (zset Z_1 52 (ix a1) a2) fun (Z_12 : zT) =>
        nm (zset Z_12 53 (ix a1) (a3 - (1 : Int32))) fun (Z_13 : zT) =>
        some ((1 : Int32), Z_13))))
def lX4_feltBy_7 (Z : zT) (a1 : Int32) (s7 : Int32 → Int32 → Int32 → Option (Int32)) (x2_7 : Int32) (x3_7 : Int32) (x4_7 : Int32) : Option (Int32) :=
  if (9 : Int32) ≤ x4_7 then (
    some x2_7)
  else (
    gd (inb x4_7 9) <|
    nm (Z 54 (ix x4_7)) fun (x5_3 : Int32) =>
    nj (fun (x2_59 : Int32) (x3_59 : Int32) =>
      nm (x4_7 + (1 : Int32)) fun (x4_4 : Int32) =>
      s7 x2_59 x3_59 x4_4) fun j59 =>
    if ((jsr a1 x5_3) &&& (1 : Int32)) = 0 then (
      j59 x2_7 x3_7)
    else (
      gd (inb x5_3 9) <|
      nm ((x3_7 + (Z 53 (ix x5_3))) + (1 : Int32)) fun (x3_7 : Int32) =>
      nm (x2_7 + ((Z 52 (ix x5_3)) * x3_7)) fun (x2_8 : Int32) =>
      j59 x2_8 x3_7))
def fX4_feltBy (Z : zT) (a1 : Int32) : Option (Int32) :=
  nj (it2 (lX4_feltBy_7 Z a1) FU) fun k7 =>
  k7 (0 : Int32) (0 : Int32) (0 : Int32)
def lX4_felt_106 (Z100 : zT) (s106 : Int32 → Int32 → Option (Int32 × zT)) (x1_106 : Int32) (x2_106 : Int32) : Option (Int32 × zT) :=
  if (512 : Int32) ≤ x2_106 then (
    some (x1_106, Z100))
  else (
    bd (fX4_feltBy Z100 x2_106) fun (r_4 : Int32) =>
    bd (fX4_feltBy Z100 ((511 : Int32) &&& (x2_106 ^^^ (-1 : Int32)))) fun (r_6 : Int32) =>
    nm (r_4 + r_6) fun (x3_7 : Int32) =>
    nj (fun (t0_141 : Int32) =>
      nm (x2_106 + (1 : Int32)) fun (x2_8 : Int32) =>
      s106 t0_141 x2_8) fun j141 =>
    if x1_106 ≤ x3_7 then (
      j141 x1_106)
    else (
      j141 x3_7))
def lX4_felt_15 (x1_7 : Int32) (j87 : zT → Int32 → Option (Int32 × zT)) (s15 : zT → Int32 → Option (Int32 × zT)) (Z15 : zT) (x2_15 : Int32) : Option (Int32 × zT) :=
  if x2_15 ≤ 0 then (
    j87 Z15 x2_15)
  else (
    gd (inb x1_7 9) <|
    gd (inb (x2_15 - (1 : Int32)) 9) <|
    gd (inb (Z15 54 (ix (x2_15 - (1 : Int32)))) 9) <|
    if ((Z15 52 (ix x1_7)) * ((Z15 53 (ix (Z15 54 (ix (x2_15 - (1 : Int32)))))) + (1 : Int32))) ≤ ((Z15 52 (ix (Z15 54 (ix (x2_15 - (1 : Int32)))))) * ((Z15 53 (ix x1_7)) + (1 : Int32))) then (
      j87 Z15 x2_15)
    else (
      gd (inb x2_15 9) <|
      nm (zset Z15 54 (ix x2_15) (Z15 54 (ix (x2_15 - (1 : Int32))))) fun (Z_20 : zT) =>
      nm (x2_15 - (1 : Int32)) fun (x2_21 : Int32) =>
      s15 Z_20 x2_21))
def lX4_felt_7 (j100 : zT → Option (Int32 × zT)) (s7 : zT → Int32 → Option (Int32 × zT)) (Z7 : zT) (x1_7 : Int32) : Option (Int32 × zT) :=
  if (9 : Int32) ≤ x1_7 then (
    j100 Z7)
  else (
    nj (fun (Z87 : zT) (x2_87 : Int32) =>
      gd (inb x2_87 9) <|
      nm (zset Z87 54 (ix x2_87) x1_7) fun (Z_12 : zT) =>
      nm (x1_7 + (1 : Int32)) fun (x1_13 : Int32) =>
      s7 Z_12 x1_13) fun j87 =>
    nj (it1 (lX4_felt_15 x1_7 j87) FU) fun k15 =>
    k15 Z7 x1_7)
def fX4_felt (Z : zT) : Option (Int32 × zT) :=
  nm (zset Z 0 0 (0 : Int32)) fun (Z_1 : zT) =>
  nj (fun (Z100 : zT) =>
    nj (it1 (lX4_felt_106 Z100) FU) fun k106 =>
    k106 (1000000 : Int32) (0 : Int32)) fun j100 =>
  nj (it1 (lX4_felt_7 j100) FU) fun k7 =>
  k7 Z_1 (0 : Int32)
def lX4_ones_4 (s4 : Int32 → Int32 → Option (Int32)) (x2_4 : Int32) (x3_4 : Int32) : Option (Int32) :=
  if x3_4 = 0 then (
    some x2_4)
  else (
    nm (x2_4 + (1 : Int32)) fun (x2_2 : Int32) =>
    nm (x3_4 &&& (x3_4 - (1 : Int32))) fun (x3_3 : Int32) =>
    s4 x2_2 x3_3)
def fX4_ones (Z : zT) (a1 : Int32) : Option (Int32) :=
  nj (it1 (lX4_ones_4) FU) fun k4 =>
  k4 (0 : Int32) a1
def lX4_goTogether_7 (Z : zT) (a1 : Int32) (j78 : Int32 → Int32 → Option (Int32)) (s7 : Int32 → Int32 → Int32 → Option (Int32)) (x2_7 : Int32) (x3_7 : Int32) (x4_7 : Int32) : Option (Int32) :=
  if (Z 22 0) ≤ x4_7 then (
    j78 x2_7 x3_7)
  else (
    gd (inb x4_7 99) <|
    nj (fun (x2_72 : Int32) (x3_72 : Int32) =>
      nm (x4_7 + (1 : Int32)) fun (x4_4 : Int32) =>
      s7 x2_72 x3_72 x4_4) fun j72 =>
    if ((jsr a1 (Z 23 (ix x4_7))) &&& (1 : Int32)) = (1 : Int32) then (
      j72 x2_7 x3_7)
    else (
      if (Z 25 (ix x4_7)) = (1 : Int32) then (
        nm (x2_7 ||| (js (1 : Int32) (Z 24 (ix x4_7)))) fun (x2_8 : Int32) =>
        j72 x2_8 x3_7)
      else (
        nm (x3_7 ||| (js (1 : Int32) (Z 24 (ix x4_7)))) fun (x3_7 : Int32) =>
        j72 x2_7 x3_7)))
def fX4_goTogether (Z : zT) (a1 : Int32) : Option (Int32) :=
  nj (fun (x2_78 : Int32) (x3_78 : Int32) =>
    if (x2_78 &&& x3_78) = 0 then (
      some (1 : Int32))
    else (
      some (0 : Int32))) fun j78 =>
  nj (it2 (lX4_goTogether_7 Z a1 j78) FU) fun k7 =>
  k7 (0 : Int32) (0 : Int32) (0 : Int32)
def lX4_liars_18 (Z_1 : zT) (s18 : Int32 → Int32 → Option (Int32 × zT)) (x1_18 : Int32) (x2_18 : Int32) : Option (Int32 × zT) :=
  if (js (1 : Int32) ((3 : Int32) * (Z_1 2 0))) ≤ x2_18 then (
    some (x1_18, Z_1))
  else (
    bd (fX4_ones Z_1 x2_18) fun (r_5 : Int32) =>
    bd (fX4_ones Z_1 x1_18) fun (r_7 : Int32) =>
    nj (fun (x1_53 : Int32) =>
      nm (x2_18 + (1 : Int32)) fun (x2_8 : Int32) =>
      s18 x1_53 x2_8) fun j53 =>
    if r_7 ≤ r_5 then (
      j53 x1_18)
    else (
      bd (fX4_goTogether Z_1 x2_18) fun (r_11 : Int32) =>
      if r_11 = 0 then (
        j53 x1_18)
      else (
        j53 x2_18)))
def fX4_liars (Z : zT) : Option (Int32 × zT) :=
  nm (zset Z 0 0 (0 : Int32)) fun (Z_1 : zT) =>
  nm ((js (1 : Int32) ((3 : Int32) * (Z_1 2 0))) - (1 : Int32)) fun (x1_2 : Int32) =>
  nj (it1 (lX4_liars_18 Z_1) FU) fun k18 =>
  k18 x1_2 (0 : Int32)
def fX4_watch (Z : zT) (a1 : Int32) : Option (Int32 × zT) :=
  nm (zset Z 0 0 (0 : Int32)) fun (Z_1 : zT) =>
  bd (fX4_isIn Z_1 a1 (1 : Int32) (99 : Int32)) fun (r_3 : Int32) =>
  if r_3 = 0 then (
    some ((-1 : Int32), Z_1))
  else (
    if (Z_1 55 0) = (9 : Int32) then (
      some ((-1 : Int32), Z_1))
    else (
      gd (inb (Z_1 55 0) 9) <|
      nm (zset Z_1 56 (ix (Z_1 55 0)) a1) fun (Z_7 : zT) =>
      nm (zset Z_7 55 0 ((Z_7 55 0) + (1 : Int32))) fun (Z_8 : zT) =>
      some (((Z_8 55 0) - (1 : Int32)), Z_8)))
def lX4_spread_29 (j66 : zT → Option (Int32 × zT)) (s29 : zT → Int32 → Int32 → Option (Int32 × zT)) (Z29 : zT) (x2_29 : Int32) (x3_29 : Int32) : Option (Int32 × zT) :=
  if x3_29 < 0 then (
    j66 Z29)
  else (
    gd (inb (jr x2_29 (3 : Int32)) 3) <|
    gd (inb x3_29 9) <|
    nm (zset Z29 57 (ix (jr x2_29 (3 : Int32))) ((Z29 57 (ix (jr x2_29 (3 : Int32)))) + (Z29 56 (ix x3_29)))) fun (Z_12 : zT) =>
    nm (x2_29 / (3 : Int32)) fun (x2_13 : Int32) =>
    nm (x3_29 + (-1 : Int32)) fun (x3_14 : Int32) =>
    s29 Z_12 x2_13 x3_14)
def lX4_spread_2 (j20 : zT → Option (Int32 × zT)) (s2 : zT → Int32 → Option (Int32 × zT)) (Z2 : zT) (x2_2 : Int32) : Option (Int32 × zT) :=
  if (3 : Int32) ≤ x2_2 then (
    j20 Z2)
  else (
    gd (inb x2_2 3) <|
    nm (zset Z2 57 (ix x2_2) (0 : Int32)) fun (Z_17 : zT) =>
    nm (x2_2 + (1 : Int32)) fun (x2_18 : Int32) =>
    s2 Z_17 x2_18)
def fX4_spread (Z : zT) (a1 : Int32) : Option (Int32 × zT) :=
  nj (fun (Z20 : zT) =>
    nm ((Z20 55 0) - (1 : Int32)) fun (x3_1 : Int32) =>
    nj (fun (Z66 : zT) =>
      gd (inb (0 : Int32) 3) <|
      gd (inb (1 : Int32) 3) <|
      nj (fun (t0_96 : Int32) =>
        nj (fun (t0_127 : Int32) =>
          gd (inb (2 : Int32) 3) <|
          nj (fun (t0_149 : Int32) =>
            nj (fun (t1_173 : Int32) =>
              some ((t0_149 - t1_173), Z66)) fun j173 =>
            if t0_127 ≤ (Z66 57 (ix (2 : Int32))) then (
              j173 t0_127)
            else (
              j173 (Z66 57 (ix (2 : Int32))))) fun j149 =>
          if (Z66 57 (ix (2 : Int32))) ≤ t0_96 then (
            j149 t0_96)
          else (
            j149 (Z66 57 (ix (2 : Int32))))) fun j127 =>
        if (Z66 57 (ix (1 : Int32))) ≤ (Z66 57 (ix (0 : Int32))) then (
          j127 (Z66 57 (ix (1 : Int32))))
        else (
          j127 (Z66 57 (ix (0 : Int32))))) fun j96 =>
      if (Z66 57 (ix (0 : Int32))) ≤ (Z66 57 (ix (1 : Int32))) then (
        j96 (Z66 57 (ix (1 : Int32))))
      else (
        j96 (Z66 57 (ix (0 : Int32))))) fun j66 =>
    nj (it2 (lX4_spread_29 j66) FU) fun k29 =>
    k29 Z20 a1 x3_1) fun j20 =>
  nj (it1 (lX4_spread_2 j20) FU) fun k2 =>
  k2 Z (0 : Int32)
def lX4_watcher_10 (a2 : Int32) (j26 : Int32 → Option (Int32)) (s10 : Int32 → Int32 → Option (Int32)) (x3_10 : Int32) (x4_10 : Int32) : Option (Int32) :=
  if x4_10 ≤ a2 then (
    j26 x3_10)
  else (
    nm (x3_10 / (3 : Int32)) fun (x3_3 : Int32) =>
    nm (x4_10 + (-1 : Int32)) fun (x4_4 : Int32) =>
    s10 x3_3 x4_4)
def fX4_watcher (Z : zT) (a1 a2 : Int32) : Option (Int32) :=
  nm ((Z 55 0) - (1 : Int32)) fun (x4_1 : Int32) =>
  nj (fun (x3_26 : Int32) =>
    some (jr x3_26 (3 : Int32))) fun j26 =>
  nj (it1 (lX4_watcher_10 a2 j26) FU) fun k10 =>
  k10 a1 x4_1
def lX4_watches_60 (x2_50 : Int32) (j97 : zT → Int32 → Int32 → Option (Int32 × zT)) (s60 : zT → Int32 → Int32 → Int32 → Option (Int32 × zT)) (Z60 : zT) (x3_60 : Int32) (x4_60 : Int32) (x5_60 : Int32) : Option (Int32 × zT) :=
  if x2_50 ≤ x5_60 then (
    j97 Z60 x3_60 x4_60)
  else (
    bdp (fX4_spread Z60 x5_60) fun (r_7 : Int32) (Z_8 : zT) =>
    nj (fun (x3_91 : Int32) (x4_91 : Int32) =>
      nm (x5_60 + (1 : Int32)) fun (x5_9 : Int32) =>
      s60 Z_8 x3_91 x4_91 x5_9) fun j91 =>
    if r_7 < x4_60 then (
      j91 x5_60 r_7)
    else (
      j91 x3_60 x4_60))
def lX4_watches_32 (Z_1 : zT) (j50 : Int32 → Option (Int32 × zT)) (s32 : Int32 → Int32 → Option (Int32 × zT)) (x2_32 : Int32) (x3_32 : Int32) : Option (Int32 × zT) :=
  if (Z_1 55 0) ≤ x3_32 then (
    j50 x2_32)
  else (
    nm ((3 : Int32) * x2_32) fun (x2_12 : Int32) =>
    nm (x3_32 + (1 : Int32)) fun (x3_13 : Int32) =>
    s32 x2_12 x3_13)
def fX4_watches (Z : zT) (a1 : Int32) : Option (Int32 × zT) :=
  nm (zset Z 0 0 (0 : Int32)) fun (Z_1 : zT) =>
  nj (
    nj (fun (x2_50 : Int32) =>
      nj (fun (Z97 : zT) (x3_97 : Int32) (x4_97 : Int32) =>
        if a1 = 0 then (
          some (x4_97, Z97))
        else (
          bd (fX4_watcher Z97 x3_97 (a1 - (10 : Int32))) fun (r_4 : Int32) =>
          some (r_4, Z97))) fun j97 =>
      nj (it3 (lX4_watches_60 x2_50 j97) FU) fun k60 =>
      k60 Z_1 (0 : Int32) (1000000 : Int32) (0 : Int32)) fun j50 =>
    nj (it1 (lX4_watches_32 Z_1 j50) FU) fun k32 =>
    k32 (1 : Int32) (0 : Int32)) fun j28 =>
  if a1 = 0 then (
    j28)
  else (
    bd (fX4_isIn Z_1 a1 (10 : Int32) ((9 : Int32) + (Z_1 55 0))) fun (r_16 : Int32) =>
    if r_16 = 0 then (
      some ((-1 : Int32), Z_1))
    else (
      j28))
def fX4_lends (Z : zT) (a1 a2 a3 a4 : Int32) : Option (Int32 × zT) :=
  nm (zset Z 0 0 (0 : Int32)) fun (Z_1 : zT) =>
  bd (fX4_isThree Z_1 a1) fun (r_3 : Int32) =>
  if r_3 = 0 then (
    some ((0 : Int32), Z_1))
  else (
    bd (fX4_isThing Z_1 a2) fun (r_6 : Int32) =>
    if r_6 = 0 then (
      some ((0 : Int32), Z_1))
    else (
      bd (fX4_isThing Z_1 a3) fun (r_9 : Int32) =>
      if r_9 = 0 then (
        some ((0 : Int32), Z_1))
      else (
        if a2 = a3 then (
          some ((0 : Int32), Z_1))
        else (
          nj (fun (t2_60 : Int32) =>
            gd (inb ((((9 : Int32) * a1) + ((3 : Int32) * a2)) + a3) 36) <|
            nm (zset Z_1 58 (ix ((((9 : Int32) * a1) + ((3 : Int32) * a2)) + a3)) t2_60) fun (Z_13 : zT) =>
            some ((1 : Int32), Z_13)) fun j60 =>
          if a4 = 0 then (
            j60 (0 : Int32))
          else (
            j60 (1 : Int32))))))
def lX4_grows_37 (a1 : Int32) (a3 : Int32) (x4_3 : Int32) (j104 : zT → Option (zT)) (s37 : zT → Int32 → Option (zT)) (Z37 : zT) (x5_37 : Int32) : Option (zT) :=
  if (3 : Int32) ≤ x5_37 then (
    j104 Z37)
  else (
    gd (inb ((((9 : Int32) * x4_3) + ((3 : Int32) * x5_37)) + (jr a3 (3 : Int32))) 36) <|
    nj (fun (Z98 : zT) =>
      nm (x5_37 + (1 : Int32)) fun (x5_7 : Int32) =>
      s37 Z98 x5_7) fun j98 =>
    if (Z37 58 (ix ((((9 : Int32) * x4_3) + ((3 : Int32) * x5_37)) + (jr a3 (3 : Int32))))) = (1 : Int32) then (
      gd (inb (a1 ||| (js (1 : Int32) x4_3)) 16) <|
      nm (zset Z37 59 (ix (a1 ||| (js (1 : Int32) x4_3))) ((Z37 59 (ix (a1 ||| (js (1 : Int32) x4_3)))) ||| (js (1 : Int32) (((3 : Int32) * x4_3) + x5_37)))) fun (Z_10 : zT) =>
      j98 Z_10)
    else (
      j98 Z37))
def lX4_grows_3 (a1 : Int32) (a2 : Int32) (a3 : Int32) (s3 : zT → Int32 → Option (zT)) (Z3 : zT) (x4_3 : Int32) : Option (zT) :=
  if (Z3 2 0) ≤ x4_3 then (
    some Z3)
  else (
    nj (fun (Z104 : zT) =>
      nm (x4_3 + (1 : Int32)) fun (x4_2 : Int32) =>
      s3 Z104 x4_2) fun j104 =>
    if ((jsr a2 x4_3) &&& (1 : Int32)) = 0 then (
      j104 Z3)
    else (
      if ((jsr a1 x4_3) &&& (1 : Int32)) = (1 : Int32) then (
        j104 Z3)
      else (
        nj (it1 (lX4_grows_37 a1 a3 x4_3 j104) FU) fun k37 =>
        k37 Z3 (0 : Int32))))
def fX4_grows (Z : zT) (a1 a2 a3 : Int32) : Option (zT) :=
  nj (it1 (lX4_grows_3 a1 a2 a3) FU) fun k3 =>
  k3 Z (0 : Int32)
def lX4_isRing_121 (a1 : Int32) (a2 : Int32) (a3 : Int32) (Z118 : zT) (s121 : Int32 → Option (Int32 × zT)) (x4_121 : Int32) : Option (Int32 × zT) :=
  if (12 : Int32) ≤ x4_121 then (
    some ((0 : Int32), Z118))
  else (
    gd (inb a1 16) <|
    nj (
      nm (x4_121 + (1 : Int32)) fun (x4_5 : Int32) =>
      s121 x4_5) fun j167 =>
    if ((jsr (Z118 59 (ix a1)) x4_121) &&& (1 : Int32)) = (1 : Int32) then (
      gd (inb ((((9 : Int32) * a2) + ((3 : Int32) * a3)) + (jr x4_121 (3 : Int32))) 36) <|
      if (Z118 58 (ix ((((9 : Int32) * a2) + ((3 : Int32) * a3)) + (jr x4_121 (3 : Int32))))) = (1 : Int32) then (
        some ((1 : Int32), Z118))
      else (
        j167))
    else (
      j167))
def lX4_isRing_74 (a1 : Int32) (x4_42 : Int32) (j112 : zT → Option (Int32 × zT)) (s74 : zT → Int32 → Option (Int32 × zT)) (Z74 : zT) (x5_74 : Int32) : Option (Int32 × zT) :=
  if (12 : Int32) ≤ x5_74 then (
    j112 Z74)
  else (
    nj (fun (Z106 : zT) =>
      nm (x5_74 + (1 : Int32)) fun (x5_15 : Int32) =>
      s74 Z106 x5_15) fun j106 =>
    if ((jsr (Z74 59 (ix x4_42)) x5_74) &&& (1 : Int32)) = (1 : Int32) then (
      bd (fX4_grows Z74 x4_42 a1 x5_74) fun (Z_18 : zT) =>
      j106 Z_18)
    else (
      j106 Z74))
def lX4_isRing_42 (a1 : Int32) (j118 : zT → Option (Int32 × zT)) (s42 : zT → Int32 → Option (Int32 × zT)) (Z42 : zT) (x4_42 : Int32) : Option (Int32 × zT) :=
  if (16 : Int32) ≤ x4_42 then (
    j118 Z42)
  else (
    nj (fun (Z112 : zT) =>
      nm (x4_42 + (1 : Int32)) fun (x4_10 : Int32) =>
      s42 Z112 x4_10) fun j112 =>
    if (x4_42 &&& (a1 ^^^ (-1 : Int32))) = 0 then (
      gd (inb x4_42 16) <|
      if (Z42 59 (ix x4_42)) = 0 then (
        j112 Z42)
      else (
        nj (it1 (lX4_isRing_74 a1 x4_42 j112) FU) fun k74 =>
        k74 Z42 (0 : Int32)))
    else (
      j112 Z42))
def lX4_isRing_3 (j24 : zT → Option (Int32 × zT)) (s3 : zT → Int32 → Option (Int32 × zT)) (Z3 : zT) (x4_3 : Int32) : Option (Int32 × zT) :=
  if (16 : Int32) ≤ x4_3 then (
    j24 Z3)
  else (
    gd (inb x4_3 16) <|
    nm (zset Z3 59 (ix x4_3) (0 : Int32)) fun (Z_21 : zT) =>
    nm (x4_3 + (1 : Int32)) fun (x4_22 : Int32) =>
    s3 Z_21 x4_22)
def fX4_isRing (Z : zT) (a1 a2 a3 : Int32) : Option (Int32 × zT) :=
  nj (fun (Z24 : zT) =>
    gd (inb (js (1 : Int32) a2) 16) <|
    nm (zset Z24 59 (ix (js (1 : Int32) a2)) (js (1 : Int32) (((3 : Int32) * a2) + a3))) fun (Z_2 : zT) =>
    nj (fun (Z118 : zT) =>
      nj (it0 (lX4_isRing_121 a1 a2 a3 Z118) FU) fun k121 =>
      k121 (0 : Int32)) fun j118 =>
    nj (it1 (lX4_isRing_42 a1 j118) FU) fun k42 =>
    k42 Z_2 (0 : Int32)) fun j24 =>
  nj (it1 (lX4_isRing_3 j24) FU) fun k3 =>
  k3 Z (0 : Int32)
def lX4_canRing_19 (a1 : Int32) (x2_17 : Int32) (s19 : zT → Int32 → Option (Int32 × zT)) (Z19 : zT) (x3_19 : Int32) : Option (Int32 × zT) :=
  if (3 : Int32) ≤ x3_19 then (
    some ((0 : Int32), Z19))
  else (
    bdp (fX4_isRing Z19 a1 x2_17 x3_19) fun (r_3 : Int32) (Z_4 : zT) =>
    if r_3 = 0 then (
      nm (x3_19 + (1 : Int32)) fun (x3_6 : Int32) =>
      s19 Z_4 x3_6)
    else (
      some ((1 : Int32), Z_4)))
def lX4_canRing_2 (a1 : Int32) (j17 : Int32 → Option (Int32 × zT)) (s2 : Int32 → Option (Int32 × zT)) (x2_2 : Int32) : Option (Int32 × zT) :=
  if ((jsr a1 x2_2) &&& (1 : Int32)) = 0 then (
    nm (x2_2 + (1 : Int32)) fun (x2_8 : Int32) =>
    s2 x2_8)
  else (
    j17 x2_2)
def fX4_canRing (Z : zT) (a1 : Int32) : Option (Int32 × zT) :=
  nj (fun (x2_17 : Int32) =>
    nj (it1 (lX4_canRing_19 a1 x2_17) FU) fun k19 =>
    k19 Z (0 : Int32)) fun j17 =>
  nj (it0 (lX4_canRing_2 a1 j17) FU) fun k2 =>
  k2 (0 : Int32)
def lX4_ring_9 (s9 : zT → Int32 → Int32 → Option (Int32 × zT)) (Z9 : zT) (x1_9 : Int32) (x2_9 : Int32) : Option (Int32 × zT) :=
  if (js (1 : Int32) (Z9 2 0)) ≤ x2_9 then (
    some (x1_9, Z9))
  else (
    bd (fX4_ones Z9 x2_9) fun (r_4 : Int32) =>
    nj (fun (Z56 : zT) (x1_56 : Int32) =>
      nm (x2_9 + (1 : Int32)) fun (x2_5 : Int32) =>
      s9 Z56 x1_56 x2_5) fun j56 =>
    if r_4 ≤ (1 : Int32) then (
      j56 Z9 x1_9)
    else (
      nj (
        bdp (fX4_canRing Z9 x2_9) fun (r_8 : Int32) (Z_9 : zT) =>
        if r_8 = 0 then (
          j56 Z_9 x1_9)
        else (
          j56 Z_9 x2_9)) fun j46 =>
      if x1_9 = (-1 : Int32) then (
        j46)
      else (
        bd (fX4_ones Z9 x2_9) fun (r_13 : Int32) =>
        bd (fX4_ones Z9 x1_9) fun (r_15 : Int32) =>
        if r_15 ≤ r_13 then (
          j56 Z9 x1_9)
        else (
          j46))))
def fX4_ring (Z : zT) : Option (Int32 × zT) :=
  nm (zset Z 0 0 (0 : Int32)) fun (Z_1 : zT) =>
  nj (it2 (lX4_ring_9) FU) fun k9 =>
  k9 Z_1 (-1 : Int32) (1 : Int32)
def fX4_kept (Z : zT) (a1 : Int32) : Option (Int32 × zT) :=
  nm (zset Z 62 0 ((Z 62 0) + (1 : Int32))) fun (Z_1 : zT) =>
  if (Z_1 60 0) = 0 then (
    gd (inb ((Z_1 62 0) - (1 : Int32)) 2000) <|
    some ((Z_1 63 (ix ((Z_1 62 0) - (1 : Int32)))), Z_1))
  else (
    gd (inb ((Z_1 62 0) - (1 : Int32)) 2000) <|
    nm (zset Z_1 63 (ix ((Z_1 62 0) - (1 : Int32))) a1) fun (Z_4 : zT) =>
    some (a1, Z_4))
def lX4_keepsThrees_371 (s371 : zT → Int32 → Option (zT)) (Z371 : zT) (x1_371 : Int32) : Option (zT) :=
  if (480 : Int32) ≤ x1_371 then (
    some Z371)
  else (
    gd (inb x1_371 600) <|
    bdp (fX4_kept Z371 (Z371 43 (ix x1_371))) fun (r_8 : Int32) (Z_9 : zT) =>
    nm (zset Z_9 43 (ix x1_371) r_8) fun (Z_10 : zT) =>
    nm (x1_371 + (1 : Int32)) fun (x1_11 : Int32) =>
    s371 Z_10 x1_11)
def lX4_keepsThrees_341 (j369 : zT → Option (zT)) (s341 : zT → Int32 → Option (zT)) (Z341 : zT) (x1_341 : Int32) : Option (zT) :=
  if (36 : Int32) ≤ x1_341 then (
    j369 Z341)
  else (
    gd (inb x1_341 36) <|
    bdp (fX4_kept Z341 (Z341 11 (ix x1_341))) fun (r_15 : Int32) (Z_16 : zT) =>
    nm (zset Z_16 11 (ix x1_341) r_15) fun (Z_17 : zT) =>
    nm (x1_341 + (1 : Int32)) fun (x1_18 : Int32) =>
    s341 Z_17 x1_18)
def lX4_keepsThrees_311 (j339 : zT → Option (zT)) (s311 : zT → Int32 → Option (zT)) (Z311 : zT) (x1_311 : Int32) : Option (zT) :=
  if (48 : Int32) ≤ x1_311 then (
    j339 Z311)
  else (
    gd (inb x1_311 48) <|
    bdp (fX4_kept Z311 (Z311 10 (ix x1_311))) fun (r_22 : Int32) (Z_23 : zT) =>
    nm (zset Z_23 10 (ix x1_311) r_22) fun (Z_24 : zT) =>
    nm (x1_311 + (1 : Int32)) fun (x1_25 : Int32) =>
    s311 Z_24 x1_25)
def lX4_keepsThrees_217 (j309 : zT → Option (zT)) (s217 : zT → Int32 → Option (zT)) (Z217 : zT) (x1_217 : Int32) : Option (zT) :=
  if (120 : Int32) ≤ x1_217 then (
    j309 Z217)
  else (
    gd (inb x1_217 120) <|
    bdp (fX4_kept Z217 (Z217 9 (ix x1_217))) fun (r_29 : Int32) (Z_30 : zT) =>
    nm (zset Z_30 9 (ix x1_217) r_29) fun (Z_31 : zT) =>
    bdp (fX4_kept Z_31 (Z_31 12 (ix x1_217))) fun (r_33 : Int32) (Z_34 : zT) =>
    nm (zset Z_34 12 (ix x1_217) r_33) fun (Z_35 : zT) =>
    bdp (fX4_kept Z_35 (Z_35 13 (ix x1_217))) fun (r_37 : Int32) (Z_38 : zT) =>
    nm (zset Z_38 13 (ix x1_217) r_37) fun (Z_39 : zT) =>
    bdp (fX4_kept Z_39 (Z_39 14 (ix x1_217))) fun (r_41 : Int32) (Z_42 : zT) =>
    nm (zset Z_42 14 (ix x1_217) r_41) fun (Z_43 : zT) =>
    bdp (fX4_kept Z_43 (Z_43 15 (ix x1_217))) fun (r_45 : Int32) (Z_46 : zT) =>
    nm (zset Z_46 15 (ix x1_217) r_45) fun (Z_47 : zT) =>
    nm (x1_217 + (1 : Int32)) fun (x1_48 : Int32) =>
    s217 Z_47 x1_48)
def lX4_keepsThrees_187 (j215 : zT → Option (zT)) (s187 : zT → Int32 → Option (zT)) (Z187 : zT) (x1_187 : Int32) : Option (zT) :=
  if (12 : Int32) ≤ x1_187 then (
    j215 Z187)
  else (
    gd (inb x1_187 12) <|
    bdp (fX4_kept Z187 (Z187 7 (ix x1_187))) fun (r_52 : Int32) (Z_53 : zT) =>
    nm (zset Z_53 7 (ix x1_187) r_52) fun (Z_54 : zT) =>
    nm (x1_187 + (1 : Int32)) fun (x1_55 : Int32) =>
    s187 Z_54 x1_55)
def lX4_keepsThrees_14 (j185 : zT → Option (zT)) (s14 : zT → Int32 → Option (zT)) (Z14 : zT) (x1_14 : Int32) : Option (zT) :=
  if (4 : Int32) ≤ x1_14 then (
    j185 Z14)
  else (
    gd (inb x1_14 4) <|
    bdp (fX4_kept Z14 (Z14 3 (ix x1_14))) fun (r_59 : Int32) (Z_60 : zT) =>
    nm (zset Z_60 3 (ix x1_14) r_59) fun (Z_61 : zT) =>
    bdp (fX4_kept Z_61 (Z_61 4 (ix x1_14))) fun (r_63 : Int32) (Z_64 : zT) =>
    nm (zset Z_64 4 (ix x1_14) r_63) fun (Z_65 : zT) =>
    bdp (fX4_kept Z_65 (Z_65 5 (ix x1_14))) fun (r_67 : Int32) (Z_68 : zT) =>
    nm (zset Z_68 5 (ix x1_14) r_67) fun (Z_69 : zT) =>
    bdp (fX4_kept Z_69 (Z_69 6 (ix x1_14))) fun (r_71 : Int32) (Z_72 : zT) =>
    nm (zset Z_72 6 (ix x1_14) r_71) fun (Z_73 : zT) =>
    bdp (fX4_kept Z_73 (Z_73 28 (ix x1_14))) fun (r_75 : Int32) (Z_76 : zT) =>
    nm (zset Z_76 28 (ix x1_14) r_75) fun (Z_77 : zT) =>
    bdp (fX4_kept Z_77 (Z_77 29 (ix x1_14))) fun (r_79 : Int32) (Z_80 : zT) =>
    nm (zset Z_80 29 (ix x1_14) r_79) fun (Z_81 : zT) =>
    bdp (fX4_kept Z_81 (Z_81 30 (ix x1_14))) fun (r_83 : Int32) (Z_84 : zT) =>
    nm (zset Z_84 30 (ix x1_14) r_83) fun (Z_85 : zT) =>
    bdp (fX4_kept Z_85 (Z_85 31 (ix x1_14))) fun (r_87 : Int32) (Z_88 : zT) =>
    nm (zset Z_88 31 (ix x1_14) r_87) fun (Z_89 : zT) =>
    bdp (fX4_kept Z_89 (Z_89 44 (ix x1_14))) fun (r_91 : Int32) (Z_92 : zT) =>
    nm (zset Z_92 44 (ix x1_14) r_91) fun (Z_93 : zT) =>
    bdp (fX4_kept Z_93 (Z_93 45 (ix x1_14))) fun (r_95 : Int32) (Z_96 : zT) =>
    nm (zset Z_96 45 (ix x1_14) r_95) fun (Z_97 : zT) =>
    nm (x1_14 + (1 : Int32)) fun (x1_98 : Int32) =>
    s14 Z_97 x1_98)
def fX4_keepsThrees (Z : zT) : Option (zT) :=
  bdp (fX4_kept Z (Z 2 0)) fun (r_2 : Int32) (Z_3 : zT) =>
  nm (zset Z_3 2 0 r_2) fun (Z_4 : zT) =>
  nj (fun (Z185 : zT) =>
    nj (fun (Z215 : zT) =>
      nj (fun (Z309 : zT) =>
        nj (fun (Z339 : zT) =>
          nj (fun (Z369 : zT) =>
            nj (it1 (lX4_keepsThrees_371) FU) fun k371 =>
            k371 Z369 (0 : Int32)) fun j369 =>
          nj (it1 (lX4_keepsThrees_341 j369) FU) fun k341 =>
          k341 Z339 (0 : Int32)) fun j339 =>
        nj (it1 (lX4_keepsThrees_311 j339) FU) fun k311 =>
        k311 Z309 (0 : Int32)) fun j309 =>
      nj (it1 (lX4_keepsThrees_217 j309) FU) fun k217 =>
      k217 Z215 (0 : Int32)) fun j215 =>
    nj (it1 (lX4_keepsThrees_187 j215) FU) fun k187 =>
    k187 Z185 (0 : Int32)) fun j185 =>
  nj (it1 (lX4_keepsThrees_14 j185) FU) fun k14 =>
  k14 Z_4 (0 : Int32)
def lX4_keepsOthers_234 (s234 : zT → Int32 → Option (zT)) (Z234 : zT) (x1_234 : Int32) : Option (zT) :=
  if (4 : Int32) ≤ x1_234 then (
    some Z234)
  else (
    gd (inb x1_234 4) <|
    bdp (fX4_kept Z234 (Z234 21 (ix x1_234))) fun (r_16 : Int32) (Z_17 : zT) =>
    nm (zset Z_17 21 (ix x1_234) r_16) fun (Z_18 : zT) =>
    nm (x1_234 + (1 : Int32)) fun (x1_19 : Int32) =>
    s234 Z_18 x1_19)
def lX4_keepsOthers_204 (j232 : zT → Option (zT)) (s204 : zT → Int32 → Option (zT)) (Z204 : zT) (x1_204 : Int32) : Option (zT) :=
  if (12 : Int32) ≤ x1_204 then (
    j232 Z204)
  else (
    gd (inb x1_204 12) <|
    bdp (fX4_kept Z204 (Z204 20 (ix x1_204))) fun (r_23 : Int32) (Z_24 : zT) =>
    nm (zset Z_24 20 (ix x1_204) r_23) fun (Z_25 : zT) =>
    nm (x1_204 + (1 : Int32)) fun (x1_26 : Int32) =>
    s204 Z_25 x1_26)
def lX4_keepsOthers_174 (j202 : zT → Option (zT)) (s174 : zT → Int32 → Option (zT)) (Z174 : zT) (x1_174 : Int32) : Option (zT) :=
  if (20 : Int32) ≤ x1_174 then (
    j202 Z174)
  else (
    gd (inb x1_174 20) <|
    bdp (fX4_kept Z174 (Z174 19 (ix x1_174))) fun (r_30 : Int32) (Z_31 : zT) =>
    nm (zset Z_31 19 (ix x1_174) r_30) fun (Z_32 : zT) =>
    nm (x1_174 + (1 : Int32)) fun (x1_33 : Int32) =>
    s174 Z_32 x1_33)
def lX4_keepsOthers_120 (j148 : zT → Option (zT)) (s120 : zT → Int32 → Option (zT)) (Z120 : zT) (x1_120 : Int32) : Option (zT) :=
  if (36 : Int32) ≤ x1_120 then (
    j148 Z120)
  else (
    gd (inb x1_120 36) <|
    bdp (fX4_kept Z120 (Z120 58 (ix x1_120))) fun (r_37 : Int32) (Z_38 : zT) =>
    nm (zset Z_38 58 (ix x1_120) r_37) fun (Z_39 : zT) =>
    nm (x1_120 + (1 : Int32)) fun (x1_40 : Int32) =>
    s120 Z_39 x1_40)
def lX4_keepsOthers_90 (j118 : zT → Option (zT)) (s90 : zT → Int32 → Option (zT)) (Z90 : zT) (x1_90 : Int32) : Option (zT) :=
  if (9 : Int32) ≤ x1_90 then (
    j118 Z90)
  else (
    gd (inb x1_90 9) <|
    bdp (fX4_kept Z90 (Z90 56 (ix x1_90))) fun (r_44 : Int32) (Z_45 : zT) =>
    nm (zset Z_45 56 (ix x1_90) r_44) fun (Z_46 : zT) =>
    nm (x1_90 + (1 : Int32)) fun (x1_47 : Int32) =>
    s90 Z_46 x1_47)
def lX4_keepsOthers_32 (j76 : zT → Option (zT)) (s32 : zT → Int32 → Option (zT)) (Z32 : zT) (x1_32 : Int32) : Option (zT) :=
  if (9 : Int32) ≤ x1_32 then (
    j76 Z32)
  else (
    gd (inb x1_32 9) <|
    bdp (fX4_kept Z32 (Z32 52 (ix x1_32))) fun (r_51 : Int32) (Z_52 : zT) =>
    nm (zset Z_52 52 (ix x1_32) r_51) fun (Z_53 : zT) =>
    bdp (fX4_kept Z_53 (Z_53 53 (ix x1_32))) fun (r_55 : Int32) (Z_56 : zT) =>
    nm (zset Z_56 53 (ix x1_32) r_55) fun (Z_57 : zT) =>
    nm (x1_32 + (1 : Int32)) fun (x1_58 : Int32) =>
    s32 Z_57 x1_58)
def lX4_keepsOthers_2 (j30 : zT → Option (zT)) (s2 : zT → Int32 → Option (zT)) (Z2 : zT) (x1_2 : Int32) : Option (zT) :=
  if (108 : Int32) ≤ x1_2 then (
    j30 Z2)
  else (
    gd (inb x1_2 108) <|
    bdp (fX4_kept Z2 (Z2 50 (ix x1_2))) fun (r_62 : Int32) (Z_63 : zT) =>
    nm (zset Z_63 50 (ix x1_2) r_62) fun (Z_64 : zT) =>
    nm (x1_2 + (1 : Int32)) fun (x1_65 : Int32) =>
    s2 Z_64 x1_65)
def fX4_keepsOthers (Z : zT) : Option (zT) :=
  nj (fun (Z30 : zT) =>
    nj (fun (Z76 : zT) =>
      bdp (fX4_kept Z76 (Z76 55 0)) fun (r_2 : Int32) (Z_3 : zT) =>
      nm (zset Z_3 55 0 r_2) fun (Z_4 : zT) =>
      nj (fun (Z118 : zT) =>
        nj (fun (Z148 : zT) =>
          bdp (fX4_kept Z148 (Z148 17 0)) fun (r_6 : Int32) (Z_7 : zT) =>
          nm (zset Z_7 17 0 r_6) fun (Z_8 : zT) =>
          bdp (fX4_kept Z_8 (Z_8 18 0)) fun (r_10 : Int32) (Z_11 : zT) =>
          nm (zset Z_11 18 0 r_10) fun (Z_12 : zT) =>
          nj (fun (Z202 : zT) =>
            nj (fun (Z232 : zT) =>
              nj (it1 (lX4_keepsOthers_234) FU) fun k234 =>
              k234 Z232 (0 : Int32)) fun j232 =>
            nj (it1 (lX4_keepsOthers_204 j232) FU) fun k204 =>
            k204 Z202 (0 : Int32)) fun j202 =>
          nj (it1 (lX4_keepsOthers_174 j202) FU) fun k174 =>
          k174 Z_12 (0 : Int32)) fun j148 =>
        nj (it1 (lX4_keepsOthers_120 j148) FU) fun k120 =>
        k120 Z118 (0 : Int32)) fun j118 =>
      nj (it1 (lX4_keepsOthers_90 j118) FU) fun k90 =>
      k90 Z_4 (0 : Int32)) fun j76 =>
    nj (it1 (lX4_keepsOthers_32 j76) FU) fun k32 =>
    k32 Z30 (0 : Int32)) fun j30 =>
  nj (it1 (lX4_keepsOthers_2 j30) FU) fun k2 =>
  k2 Z (0 : Int32)
def lX4_image_101 (j193 : zT → Option (Int32 × zT)) (s101 : zT → Int32 → Option (Int32 × zT)) (Z101 : zT) (x2_101 : Int32) : Option (Int32 × zT) :=
  if (99 : Int32) ≤ x2_101 then (
    j193 Z101)
  else (
    gd (inb x2_101 99) <|
    bdp (fX4_kept Z101 (Z101 23 (ix x2_101))) fun (r_25 : Int32) (Z_26 : zT) =>
    nm (zset Z_26 23 (ix x2_101) r_25) fun (Z_27 : zT) =>
    bdp (fX4_kept Z_27 (Z_27 24 (ix x2_101))) fun (r_29 : Int32) (Z_30 : zT) =>
    nm (zset Z_30 24 (ix x2_101) r_29) fun (Z_31 : zT) =>
    bdp (fX4_kept Z_31 (Z_31 25 (ix x2_101))) fun (r_33 : Int32) (Z_34 : zT) =>
    nm (zset Z_34 25 (ix x2_101) r_33) fun (Z_35 : zT) =>
    bdp (fX4_kept Z_35 (Z_35 26 (ix x2_101))) fun (r_37 : Int32) (Z_38 : zT) =>
    nm (zset Z_38 26 (ix x2_101) r_37) fun (Z_39 : zT) =>
    bdp (fX4_kept Z_39 (Z_39 27 (ix x2_101))) fun (r_41 : Int32) (Z_42 : zT) =>
    nm (zset Z_42 27 (ix x2_101) r_41) fun (Z_43 : zT) =>
    nm (x2_101 + (1 : Int32)) fun (x2_44 : Int32) =>
    s101 Z_43 x2_44)
def lX4_image_59 (j87 : zT → Option (Int32 × zT)) (s59 : zT → Int32 → Option (Int32 × zT)) (Z59 : zT) (x2_59 : Int32) : Option (Int32 × zT) :=
  if (10 : Int32) ≤ x2_59 then (
    j87 Z59)
  else (
    gd (inb x2_59 10) <|
    bdp (fX4_kept Z59 (Z59 8 (ix x2_59))) fun (r_48 : Int32) (Z_49 : zT) =>
    nm (zset Z_49 8 (ix x2_59) r_48) fun (Z_50 : zT) =>
    nm (x2_59 + (1 : Int32)) fun (x2_51 : Int32) =>
    s59 Z_50 x2_51)
def fX4_image (Z : zT) (a1 : Int32) : Option (Int32 × zT) :=
  nm (zset Z 0 0 (0 : Int32)) fun (Z_1 : zT) =>
  nj (
    gd (isb a1) <|
    nm (zset Z_1 60 0 a1) fun (Z_3 : zT) =>
    nm (zset Z_3 61 0 (1 : Int32)) fun (Z_4 : zT) =>
    nm (zset Z_4 62 0 (0 : Int32)) fun (Z_5 : zT) =>
    bdp (fX4_kept Z_5 (Z_5 1 0)) fun (r_7 : Int32) (Z_8 : zT) =>
    nm (zset Z_8 1 0 r_7) fun (Z_9 : zT) =>
    bdp (fX4_kept Z_9 (Z_9 16 0)) fun (r_11 : Int32) (Z_12 : zT) =>
    nm (zset Z_12 16 0 r_11) fun (Z_13 : zT) =>
    nj (fun (Z87 : zT) =>
      bdp (fX4_kept Z87 (Z87 22 0)) fun (r_15 : Int32) (Z_16 : zT) =>
      nm (zset Z_16 22 0 r_15) fun (Z_17 : zT) =>
      nj (fun (Z193 : zT) =>
        bd (fX4_keepsThrees Z193) fun (Z_19 : zT) =>
        bd (fX4_keepsOthers Z_19) fun (Z_21 : zT) =>
        some ((1 : Int32), Z_21)) fun j193 =>
      nj (it1 (lX4_image_101 j193) FU) fun k101 =>
      k101 Z_17 (0 : Int32)) fun j87 =>
    nj (it1 (lX4_image_59 j87) FU) fun k59 =>
    k59 Z_13 (0 : Int32)) fun j18 =>
  if a1 = 0 then (
    if (Z_1 61 0) = 0 then (
      some ((0 : Int32), Z_1))
    else (
      j18))
  else (
    j18)
def fX4_look (Z : zT) (a1 : Int32) : Option (Int32 × zT) :=
  nm (zset Z 0 0 (0 : Int32)) fun (Z_1 : zT) =>
  if a1 = 0 then (
    some ((Z_1 2 0), Z_1))
  else (
    if a1 = (1 : Int32) then (
      some ((Z_1 16 0), Z_1))
    else (
      if a1 = (2 : Int32) then (
        some ((Z_1 22 0), Z_1))
      else (
        if a1 = (3 : Int32) then (
          some ((Z_1 55 0), Z_1))
        else (
          if a1 = (4 : Int32) then (
            some ((Z_1 1 0), Z_1))
          else (
            if a1 = (5 : Int32) then (
              some ((Z_1 17 0), Z_1))
            else (
              if a1 = (6 : Int32) then (
                some ((Z_1 18 0), Z_1))
              else (
                bd (fX4_isIn Z_1 a1 (10 : Int32) (19 : Int32)) fun (r_10 : Int32) =>
                if r_10 = 0 then (
                  some ((-1 : Int32), Z_1))
                else (
                  gd (inb (a1 - (10 : Int32)) 10) <|
                  some ((Z_1 8 (ix (a1 - (10 : Int32)))), Z_1)))))))))
