/-! String's methods and the Reader's that don't throw, as functions (printed by gen/rgen.py) -/
def fJ3_coder (a0 : Nat) : Option (Int32) :=
  if (1 : Int32) = 0 then (
    some (1 : Int32))
  else (
    gd (decide (a0 < 10)) <|
    some (0 : Int32))
def fJ3_length (a0 : Nat) : Option (Int32) :=
  gd (decide (a0 < 10)) <|
  bd (fJ3_coder a0) fun (r_2 : Int32) =>
  some (jsr (nI (xsl a0)) r_2)
def fJ3_isLatin1 (a0 : Nat) : Option (Int32) :=
  nj (
    some (0 : Int32)) fun j17 =>
  if (1 : Int32) = 0 then (
    j17)
  else (
    gd (decide (a0 < 10)) <|
    if (0 : Int32) = 0 then (
      some (1 : Int32))
    else (
      j17))
def fJ3_checkIndex (a0 a1 : Int32) : Option Unit :=
  bd (fJ5_checkIndex a0 a1) fun (_ : Int32) =>
  some ()
def fJ4_charAt (a0 : Nat) (a1 : Int32) : Option (Int32) :=
  gd (decide (a0 < 10)) <|
  bd (fJ3_checkIndex a1 (nI (xsl a0))) fun (_ : Unit) =>
  gd (inb a1 (xsl a0)) <|
  gd (isch (jc ((xsb a0 (ix a1)) &&& (255 : Int32)))) <|
  some (jc ((xsb a0 (ix a1)) &&& (255 : Int32)))
def fJ3_charAt (a0 : Nat) (a1 : Int32) : Option (Int32) :=
  gd (decide (a0 < 10)) <|
  bd (fJ3_isLatin1 a0) fun (r_2 : Int32) =>
  if r_2 = 0 then (
    none)
  else (
    bd (fJ4_charAt a0 a1) fun (r_5 : Int32) =>
    gd (isch r_5) <|
    some r_5)
def fX5_see (S : sT) (P : pT) (I : zT) (a0 : Nat) : Option (Int32) :=
  gd (isk S a0 6) <|
  bd (P a0 4) fun (b_2 : Nat) =>
  gd (isk S b_2 1) <|
  if (I b_2 1) ≤ (I a0 0) then (
    some (-1 : Int32))
  else (
    bd (P b_2 0) fun (b_5 : Nat) =>
    gd (isk S b_5 22) <|
    gd (inb (I a0 0) (S b_5).2) <|
    some ((I b_5 (ix (I a0 0))) &&& (255 : Int32)))
def fX5_isLetter (S : sT) (P : pT) (I : zT) (a0 : Nat) : Option (Int32) :=
  gd (isk S a0 6) <|
  bd (fX5_see S P I a0) fun (r_2 : Int32) =>
  bd (fX0_isIn r_2 (97 : Int32) (122 : Int32)) fun (r_4 : Int32) =>
  nj (
    some (1 : Int32)) fun j28 =>
  if r_4 = 0 then (
    bd (fX5_see S P I a0) fun (r_7 : Int32) =>
    bd (fX0_isIn r_7 (65 : Int32) (90 : Int32)) fun (r_9 : Int32) =>
    if r_9 = 0 then (
      some (0 : Int32))
    else (
      j28))
  else (
    j28)
def fX5_isDigit (S : sT) (P : pT) (I : zT) (a0 : Nat) : Option (Int32) :=
  gd (isk S a0 6) <|
  bd (fX5_see S P I a0) fun (r_2 : Int32) =>
  bd (fX0_isIn r_2 (48 : Int32) (57 : Int32)) fun (r_4 : Int32) =>
  gd (isb r_4) <|
  some r_4
def lX5_is_24 (S : sT) (P : pT) (I : zT) (a0 : Nat) (a1 : Nat) (s24 : Int32 → Int32 → Option (Int32)) (x2_24 : Int32) (x3_24 : Int32) : Option (Int32) :=
  bd (fJ3_length a1) fun (r_5 : Int32) =>
  if r_5 ≤ x3_24 then (
    gd (isb x2_24) <|
    some x2_24)
  else (
    if x2_24 = 0 then (
      gd (isb x2_24) <|
      some x2_24)
    else (
      bd (P a0 4) fun (b_11 : Nat) =>
      gd (isk S b_11 1) <|
      bd (P b_11 0) fun (b_13 : Nat) =>
      gd (isk S b_13 22) <|
      gd (inb ((I a0 1) + x3_24) (S b_13).2) <|
      bd (fJ3_charAt a1 x3_24) fun (r_16 : Int32) =>
      nj (fun (t0_63 : Int32) =>
        nm (x3_24 + (1 : Int32)) fun (x3_18 : Int32) =>
        s24 t0_63 x3_18) fun j63 =>
      if (I b_13 (ix ((I a0 1) + x3_24))) = r_16 then (
        j63 (1 : Int32))
      else (
        j63 (0 : Int32))))
def fX5_is (S : sT) (P : pT) (I : zT) (a0 : Nat) (a1 : Nat) : Option (Int32) :=
  gd (isk S a0 6) <|
  gd (decide (a1 < 10)) <|
  bd (fJ3_length a1) fun (r_3 : Int32) =>
  nj (fun (t0_21 : Int32) =>
    nj (it1 (lX5_is_24 S P I a0 a1) FU) fun k24 =>
    k24 t0_21 (0 : Int32)) fun j21 =>
  if ((I a0 0) - (I a0 1)) = r_3 then (
    j21 (1 : Int32))
  else (
    j21 (0 : Int32))
def fX5_keyword (S : sT) (P : pT) (I : zT) (a0 : Nat) : Option (Int32) :=
  gd (isk S a0 6) <|
  bd (fX5_is S P I a0 0) fun (r_2 : Int32) =>
  if r_2 = 0 then (
    bd (fX5_is S P I a0 1) fun (r_5 : Int32) =>
    if r_5 = 0 then (
      bd (fX5_is S P I a0 2) fun (r_8 : Int32) =>
      if r_8 = 0 then (
        bd (fX5_is S P I a0 3) fun (r_11 : Int32) =>
        if r_11 = 0 then (
          bd (fX5_is S P I a0 4) fun (r_14 : Int32) =>
          if r_14 = 0 then (
            bd (fX5_is S P I a0 5) fun (r_17 : Int32) =>
            if r_17 = 0 then (
              bd (fX5_is S P I a0 6) fun (r_20 : Int32) =>
              if r_20 = 0 then (
                bd (fX5_is S P I a0 7) fun (r_23 : Int32) =>
                if r_23 = 0 then (
                  bd (fX5_is S P I a0 8) fun (r_26 : Int32) =>
                  if r_26 = 0 then (
                    bd (fX5_is S P I a0 9) fun (r_29 : Int32) =>
                    if r_29 = 0 then (
                      some (1 : Int32))
                    else (
                      some (22 : Int32)))
                  else (
                    some (21 : Int32)))
                else (
                  some (20 : Int32)))
              else (
                some (4 : Int32)))
            else (
              some (15 : Int32)))
          else (
            some (14 : Int32)))
        else (
          some (13 : Int32)))
      else (
        some (12 : Int32)))
    else (
      some (11 : Int32)))
  else (
    some (10 : Int32))
def lX5_next_62 (S : sT) (P : pT) (a0 : Nat) (j82 : zT → Option (zT)) (s62 : zT → Option (zT)) (I62 : zT) : Option (zT) :=
  bd (fX5_isLetter S P I62 a0) fun (r_11 : Int32) =>
  if r_11 = 0 then (
    j82 I62)
  else (
    nm (zset I62 a0 0 ((I62 a0 0) + (1 : Int32))) fun (I_14 : zT) =>
    s62 I_14)
def lX5_next_105 (S : sT) (P : pT) (a0 : Nat) (j157 : zT → Option (zT)) (s105 : zT → Option (zT)) (I105 : zT) : Option (zT) :=
  bd (fX5_isDigit S P I105 a0) fun (r_27 : Int32) =>
  if r_27 = 0 then (
    j157 I105)
  else (
    nj (fun (I144 : zT) =>
      nm (zset I144 a0 0 ((I144 a0 0) + (1 : Int32))) fun (I_30 : zT) =>
      s105 I_30) fun j144 =>
    if ((I105 a0 1) + (4 : Int32)) ≤ (I105 a0 0) then (
      j144 I105)
    else (
      bd (fX5_see S P I105 a0) fun (r_32 : Int32) =>
      nm (zset I105 a0 3 ((((10 : Int32) * (I105 a0 3)) + r_32) - (48 : Int32))) fun (I_34 : zT) =>
      j144 I_34))
def lX5_next_0 (S : sT) (P : pT) (a0 : Nat) (j31 : zT → Option (zT)) (s0 : zT → Option (zT)) (I0 : zT) : Option (zT) :=
  gd (isk S a0 6) <|
  bd (fX5_see S P I0 a0) fun (r_37 : Int32) =>
  nj (
    nm (zset I0 a0 0 ((I0 a0 0) + (1 : Int32))) fun (I_39 : zT) =>
    s0 I_39) fun j18 =>
  if r_37 = (32 : Int32) then (
    j18)
  else (
    bd (fX5_see S P I0 a0) fun (r_41 : Int32) =>
    if r_41 = (10 : Int32) then (
      j18)
    else (
      j31 I0))
def fX5_next (S : sT) (P : pT) (I : zT) (a0 : Nat) : Option (zT) :=
  nj (fun (I31 : zT) =>
    gd (isk S a0 6) <|
    nm (zset I31 a0 1 (I31 a0 0)) fun (I_2 : zT) =>
    bd (fX5_see S P I_2 a0) fun (r_3 : Int32) =>
    if r_3 = (-1 : Int32) then (
      nm (zset I_2 a0 2 (0 : Int32)) fun (I_35 : zT) =>
      some I_35)
    else (
      bd (fX5_isLetter S P I_2 a0) fun (r_6 : Int32) =>
      nj (fun (I82 : zT) =>
        bd (fX5_keyword S P I82 a0) fun (r_8 : Int32) =>
        nm (zset I82 a0 2 r_8) fun (I_10 : zT) =>
        some I_10) fun j82 =>
      nj (it0 (lX5_next_62 S P a0 j82) FU) fun k62 =>
      if r_6 = 0 then (
        bd (fX5_isDigit S P I_2 a0) fun (r_16 : Int32) =>
        if r_16 = 0 then (
          bd (fX5_see S P I_2 a0) fun (r_19 : Int32) =>
          nj (fun (t1_197 : Int32) =>
            nm (zset I_2 a0 2 t1_197) fun (I_21 : zT) =>
            nm (zset I_21 a0 0 ((I_21 a0 0) + (1 : Int32))) fun (I_22 : zT) =>
            some I_22) fun j197 =>
          if r_19 = (59 : Int32) then (
            j197 (3 : Int32))
          else (
            j197 (1 : Int32)))
        else (
          nm (zset I_2 a0 3 (0 : Int32)) fun (I_24 : zT) =>
          nj (fun (I157 : zT) =>
            nj (fun (t1_176 : Int32) =>
              nm (zset I157 a0 2 t1_176) fun (I_25 : zT) =>
              some I_25) fun j176 =>
            if (5 : Int32) ≤ ((I157 a0 0) - (I157 a0 1)) then (
              j176 (1 : Int32))
            else (
              j176 (2 : Int32))) fun j157 =>
          nj (it0 (lX5_next_105 S P a0 j157) FU) fun k105 =>
          k105 I_24))
      else (
        k62 I_2))) fun j31 =>
  nj (it0 (lX5_next_0 S P a0 j31) FU) fun k0 =>
  k0 I
