/-! LAYER 2: the relation between OneEye's numbers Y and OneEyeModel's numbers Z (printed by gen2/rel.py) -/
theorem li_0 : (0 : Int32) = nI 0 := Eq.trans (Eq.refl _) (Eq.refl _)
theorem li_1 : (1 : Int32) = nI 1 := Eq.trans (Eq.refl _) (Eq.refl _)
theorem li_2 : (2 : Int32) = nI 2 := Eq.trans (Eq.refl _) (Eq.refl _)
theorem li_3 : (3 : Int32) = nI 3 := Eq.trans (Eq.refl _) (Eq.refl _)
theorem li_4 : (4 : Int32) = nI 4 := Eq.trans (Eq.refl _) (Eq.refl _)
theorem li_5 : (5 : Int32) = nI 5 := Eq.trans (Eq.refl _) (Eq.refl _)
theorem li_6 : (6 : Int32) = nI 6 := Eq.trans (Eq.refl _) (Eq.refl _)
theorem li_7 : (7 : Int32) = nI 7 := Eq.trans (Eq.refl _) (Eq.refl _)
theorem li_8 : (8 : Int32) = nI 8 := Eq.trans (Eq.refl _) (Eq.refl _)
theorem li_9 : (9 : Int32) = nI 9 := Eq.trans (Eq.refl _) (Eq.refl _)
theorem li_10 : (10 : Int32) = nI 10 := Eq.trans (Eq.refl _) (Eq.refl _)
theorem li_11 : (11 : Int32) = nI 11 := Eq.trans (Eq.refl _) (Eq.refl _)
theorem li_12 : (12 : Int32) = nI 12 := Eq.trans (Eq.refl _) (Eq.refl _)
theorem li_13 : (13 : Int32) = nI 13 := Eq.trans (Eq.refl _) (Eq.refl _)
theorem li_14 : (14 : Int32) = nI 14 := Eq.trans (Eq.refl _) (Eq.refl _)
theorem li_15 : (15 : Int32) = nI 15 := Eq.trans (Eq.refl _) (Eq.refl _)
theorem li_16 : (16 : Int32) = nI 16 := Eq.trans (Eq.refl _) (Eq.refl _)
theorem li_17 : (17 : Int32) = nI 17 := Eq.trans (Eq.refl _) (Eq.refl _)
theorem li_18 : (18 : Int32) = nI 18 := Eq.trans (Eq.refl _) (Eq.refl _)
theorem li_19 : (19 : Int32) = nI 19 := Eq.trans (Eq.refl _) (Eq.refl _)
theorem li_20 : (20 : Int32) = nI 20 := Eq.trans (Eq.refl _) (Eq.refl _)
theorem li_21 : (21 : Int32) = nI 21 := Eq.trans (Eq.refl _) (Eq.refl _)
theorem li_22 : (22 : Int32) = nI 22 := Eq.trans (Eq.refl _) (Eq.refl _)
theorem li_23 : (23 : Int32) = nI 23 := Eq.trans (Eq.refl _) (Eq.refl _)
theorem li_24 : (24 : Int32) = nI 24 := Eq.trans (Eq.refl _) (Eq.refl _)
theorem li_25 : (25 : Int32) = nI 25 := Eq.trans (Eq.refl _) (Eq.refl _)
theorem li_26 : (26 : Int32) = nI 26 := Eq.trans (Eq.refl _) (Eq.refl _)
theorem li_27 : (27 : Int32) = nI 27 := Eq.trans (Eq.refl _) (Eq.refl _)
theorem li_28 : (28 : Int32) = nI 28 := Eq.trans (Eq.refl _) (Eq.refl _)
theorem li_29 : (29 : Int32) = nI 29 := Eq.trans (Eq.refl _) (Eq.refl _)
theorem li_30 : (30 : Int32) = nI 30 := Eq.trans (Eq.refl _) (Eq.refl _)
theorem li_31 : (31 : Int32) = nI 31 := Eq.trans (Eq.refl _) (Eq.refl _)
theorem li_32 : (32 : Int32) = nI 32 := Eq.trans (Eq.refl _) (Eq.refl _)
theorem li_33 : (33 : Int32) = nI 33 := Eq.trans (Eq.refl _) (Eq.refl _)
theorem li_34 : (34 : Int32) = nI 34 := Eq.trans (Eq.refl _) (Eq.refl _)
theorem li_35 : (35 : Int32) = nI 35 := Eq.trans (Eq.refl _) (Eq.refl _)
theorem li_36 : (36 : Int32) = nI 36 := Eq.trans (Eq.refl _) (Eq.refl _)
theorem li_37 : (37 : Int32) = nI 37 := Eq.trans (Eq.refl _) (Eq.refl _)
theorem li_38 : (38 : Int32) = nI 38 := Eq.trans (Eq.refl _) (Eq.refl _)
theorem li_39 : (39 : Int32) = nI 39 := Eq.trans (Eq.refl _) (Eq.refl _)
theorem li_40 : (40 : Int32) = nI 40 := Eq.trans (Eq.refl _) (Eq.refl _)
theorem li_41 : (41 : Int32) = nI 41 := Eq.trans (Eq.refl _) (Eq.refl _)
theorem li_42 : (42 : Int32) = nI 42 := Eq.trans (Eq.refl _) (Eq.refl _)
theorem li_43 : (43 : Int32) = nI 43 := Eq.trans (Eq.refl _) (Eq.refl _)
theorem li_44 : (44 : Int32) = nI 44 := Eq.trans (Eq.refl _) (Eq.refl _)
theorem li_45 : (45 : Int32) = nI 45 := Eq.trans (Eq.refl _) (Eq.refl _)
theorem li_48 : (48 : Int32) = nI 48 := Eq.trans (Eq.refl _) (Eq.refl _)
theorem li_57 : (57 : Int32) = nI 57 := Eq.trans (Eq.refl _) (Eq.refl _)
theorem li_59 : (59 : Int32) = nI 59 := Eq.trans (Eq.refl _) (Eq.refl _)
theorem li_61 : (61 : Int32) = nI 61 := Eq.trans (Eq.refl _) (Eq.refl _)
theorem li_63 : (63 : Int32) = nI 63 := Eq.trans (Eq.refl _) (Eq.refl _)
theorem li_64 : (64 : Int32) = nI 64 := Eq.trans (Eq.refl _) (Eq.refl _)
theorem li_65 : (65 : Int32) = nI 65 := Eq.trans (Eq.refl _) (Eq.refl _)
theorem li_72 : (72 : Int32) = nI 72 := Eq.trans (Eq.refl _) (Eq.refl _)
theorem li_90 : (90 : Int32) = nI 90 := Eq.trans (Eq.refl _) (Eq.refl _)
theorem li_97 : (97 : Int32) = nI 97 := Eq.trans (Eq.refl _) (Eq.refl _)
theorem li_99 : (99 : Int32) = nI 99 := Eq.trans (Eq.refl _) (Eq.refl _)
theorem li_101 : (101 : Int32) = nI 101 := Eq.trans (Eq.refl _) (Eq.refl _)
theorem li_102 : (102 : Int32) = nI 102 := Eq.trans (Eq.refl _) (Eq.refl _)
theorem li_103 : (103 : Int32) = nI 103 := Eq.trans (Eq.refl _) (Eq.refl _)
theorem li_104 : (104 : Int32) = nI 104 := Eq.trans (Eq.refl _) (Eq.refl _)
theorem li_105 : (105 : Int32) = nI 105 := Eq.trans (Eq.refl _) (Eq.refl _)
theorem li_108 : (108 : Int32) = nI 108 := Eq.trans (Eq.refl _) (Eq.refl _)
theorem li_109 : (109 : Int32) = nI 109 := Eq.trans (Eq.refl _) (Eq.refl _)
theorem li_111 : (111 : Int32) = nI 111 := Eq.trans (Eq.refl _) (Eq.refl _)
theorem li_114 : (114 : Int32) = nI 114 := Eq.trans (Eq.refl _) (Eq.refl _)
theorem li_115 : (115 : Int32) = nI 115 := Eq.trans (Eq.refl _) (Eq.refl _)
theorem li_116 : (116 : Int32) = nI 116 := Eq.trans (Eq.refl _) (Eq.refl _)
theorem li_117 : (117 : Int32) = nI 117 := Eq.trans (Eq.refl _) (Eq.refl _)
theorem li_118 : (118 : Int32) = nI 118 := Eq.trans (Eq.refl _) (Eq.refl _)
theorem li_120 : (120 : Int32) = nI 120 := Eq.trans (Eq.refl _) (Eq.refl _)
theorem li_121 : (121 : Int32) = nI 121 := Eq.trans (Eq.refl _) (Eq.refl _)
theorem li_122 : (122 : Int32) = nI 122 := Eq.trans (Eq.refl _) (Eq.refl _)
theorem li_216 : (216 : Int32) = nI 216 := Eq.trans (Eq.refl _) (Eq.refl _)
theorem li_240 : (240 : Int32) = nI 240 := Eq.trans (Eq.refl _) (Eq.refl _)
theorem li_255 : (255 : Int32) = nI 255 := Eq.trans (Eq.refl _) (Eq.refl _)
theorem li_256 : (256 : Int32) = nI 256 := Eq.trans (Eq.refl _) (Eq.refl _)
theorem li_380 : (380 : Int32) = nI 380 := Eq.trans (Eq.refl _) (Eq.refl _)
theorem li_400 : (400 : Int32) = nI 400 := Eq.trans (Eq.refl _) (Eq.refl _)
theorem li_480 : (480 : Int32) = nI 480 := Eq.trans (Eq.refl _) (Eq.refl _)
theorem li_511 : (511 : Int32) = nI 511 := Eq.trans (Eq.refl _) (Eq.refl _)
theorem li_512 : (512 : Int32) = nI 512 := Eq.trans (Eq.refl _) (Eq.refl _)
theorem li_729 : (729 : Int32) = nI 729 := Eq.trans (Eq.refl _) (Eq.refl _)
theorem li_1000 : (1000 : Int32) = nI 1000 := Eq.trans (Eq.refl _) (Eq.refl _)
theorem li_5184 : (5184 : Int32) = nI 5184 := Eq.trans (Eq.refl _) (Eq.refl _)
theorem li_10000 : (10000 : Int32) = nI 10000 := Eq.trans (Eq.refl _) (Eq.refl _)
theorem li_46656 : (46656 : Int32) = nI 46656 := Eq.trans (Eq.refl _) (Eq.refl _)
theorem li_65536 : (65536 : Int32) = nI 65536 := Eq.trans (Eq.refl _) (Eq.refl _)
theorem li_99999 : (99999 : Int32) = nI 99999 := Eq.trans (Eq.refl _) (Eq.refl _)
theorem li_1000000 : (1000000 : Int32) = nI 1000000 := Eq.trans (Eq.refl _) (Eq.refl _)
/-- how many places of a field are the same on both sides -/
def lim (m nn nl nw f : Nat) : Nat := match f with
  | 1 => 1
  | 2 => 1
  | 16 => 1
  | 17 => 1
  | 18 => 1
  | 22 => 1
  | 55 => 1
  | 3 => 4
  | 4 => 4
  | 5 => 4
  | 6 => 4
  | 21 => 4
  | 29 => 4
  | 45 => 4
  | 7 => 12
  | 8 => 10
  | 9 => 120
  | 10 => 12 * m
  | 11 => 36
  | 12 => 120
  | 13 => 120
  | 14 => 120
  | 15 => 120
  | 19 => nn
  | 20 => 12
  | 23 => nl
  | 24 => nl
  | 25 => nl
  | 26 => nl
  | 27 => nl
  | 50 => 108
  | 52 => 9
  | 56 => nw
  | 58 => 36
  | _ => 0
/-- the bounds of OneEyeModel's numbers -/
def hib (f : Nat) : Nat := match f with
  | 2 => 4
  | 3 => 9
  | 4 => 1000
  | 7 => 18
  | 8 => 1
  | 9 => 2
  | 10 => 1
  | 16 => 99999
  | 18 => 20
  | 22 => 99
  | 23 => 11
  | 24 => 9
  | 25 => 1
  | 26 => 11
  | 28 => 3
  | 29 => 99
  | 30 => 99
  | 31 => 11
  | 34 => 400
  | 44 => 30
  | 45 => 30
  | 50 => 9
  | 52 => 99
  | 53 => 8
  | 55 => 9
  | 56 => 99
  | 58 => 1
  | 61 => 1
  | _ => 0
def MB (Z : zT) : Prop := ∀ f i, hib f ≠ 0 → ∃ k, k ≤ hib f ∧ Z f i = nI k
def VN (m nn nl nw : Nat) (Y Z : zT) : Prop :=
  (Z 2 0 = nI m ∧ Z 18 0 = nI nn ∧ Z 22 0 = nI nl ∧ Z 55 0 = nI nw) ∧ (m ≤ 4 ∧ nn ≤ 20 ∧ nl ≤ 99 ∧ nw ≤ 9) ∧
  (∀ f i, i < lim m nn nl nw f → Y f i = Z f i) ∧ (∀ i, 12 * m ≤ i → i < 48 → Y 10 i = nI 1) ∧ (∀ t, t < 4 → Y 65 t = nI t) ∧ (∀ s, s < 9 → Y 53 s = Z 53 s + nI 1) ∧
  (∀ t, t < 4 → (Z 28 t = nI 1 → Y 28 t = nI 0 ∧ Y 30 t = Z 30 t ∧ Y 31 t = Z 31 t) ∧ (Z 28 t = nI 2 → Y 28 t = nI 4) ∧ (Z 28 t = nI 3 → Y 28 t = nI 5 ∧ Y 30 t = Z 30 t ∧ Y 31 t = Z 31 t))
def MC (m nl : Nat) (Z : zT) : Prop :=
  (∀ t, t < 4 → (Z 28 t = nI 0 ↔ Z 29 t = nI 0)) ∧
  (∀ t, t < 4 → Z 28 t = nI 1 → ∃ x y, x ≤ 2 ∧ y ≤ 2 ∧ Z 30 t = nI x ∧ Z 31 t = nI y ∧ Z 7 (3 * t + x) = nI 3) ∧
  (∀ t, t < 4 → Z 28 t = nI 3 → ∃ x y, x ≤ 2 ∧ y ≤ 8 ∧ Z 30 t = nI x ∧ Z 31 t = nI y) ∧
  (∀ t k, t < 4 → k < 3 → Z 7 (3 * t + k) = nI 3 → Z 28 t = nI 1 ∧ Z 30 t = nI k) ∧
  (∀ t, m ≤ t → t < 4 → Z 5 t = nI 0 ∧ Z 6 t = nI 0 ∧ Z 21 t = nI 0 ∧ Z 28 t = nI 0 ∧ Z 29 t = nI 0 ∧ Z 44 t = nI 0 ∧ Z 45 t = nI 0 ∧ ∀ k, k < 3 → Z 7 (3 * t + k) = nI 0) ∧
  (∀ t, t < m → Z 3 t ≠ nI 0) ∧ (∀ i, i < nl → ∃ k, k < 3 * m ∧ Z 23 i = nI k) ∧
  (∀ t, t < 4 → ∃ i j, i ≤ j ∧ j ≤ 30 ∧ Z 45 t = nI i ∧ Z 44 t = nI j)
/-- where plans may lie -/
def okp (a n x : Nat) : Prop := x < n ∧ (a + 741 ≤ x ∨ ∃ u t, (u = a + 2 ∨ u = a + 360) ∧ t < 4 ∧ x = aQ u t)
def stepR (m : Nat) (S : sT) (I : zT) (s : Nat) (w x y : Int32) : Prop :=
  (S s = (8, 0) ∧ w = nI 0 ∧ ∃ i j, i ≤ 2 ∧ j ≤ 2 ∧ x = nI i ∧ y = nI j ∧ I s 0 = x ∧ I s 1 = y) ∨
  (S s = (9, 0) ∧ w = nI 1 ∧ ∃ i, i ≤ 9 ∧ x = nI i ∧ I s 0 = x) ∨
  (S s = (10, 0) ∧ (w = nI 2 ∧ I s 2 = nI 0 ∨ w = nI 3 ∧ I s 2 = nI 1) ∧ ∃ i j, i ≤ 9 ∧ j < m ∧ x = nI i ∧ y = nI j ∧ I s 0 = x ∧ I s 1 = y) ∨
  (S s = (11, 0) ∧ w = nI 4 ∧ ∃ i, 1 ≤ i ∧ i ≤ 99 ∧ x = nI i ∧ I s 0 = x ∧ y = nI 0) ∨
  (S s = (12, 0) ∧ w = nI 5 ∧ ∃ i j, i ≤ 2 ∧ j ≤ 8 ∧ x = nI i ∧ y = nI j ∧ I s 0 = x ∧ I s 1 = y)
def plan (S : sT) (P : pT) (I : zT) (a n m L k : Nat) (f : Nat → Int32) : Prop :=
  okp a n L ∧ S L = (5, 0) ∧ I L 2 = nI k ∧ (0 < k → ∃ q c, P L 1 = some q ∧ a + 741 ≤ q ∧ q < n ∧ S q = (23, c) ∧ k ≤ c ∧ c < 2147483648 ∧
    ∀ j, j < k → ∃ s, P q j = some s ∧ a + 741 ≤ s ∧ s < n ∧ stepR m S I s (f (4 * j)) (f (4 * j + 1)) (f (4 * j + 2)))
def PLr (S : sT) (P : pT) (I : zT) (a n m u : Nat) (Z : zT) : Prop := ∀ t, t < 4 → ∃ L k, P (aT u t) 2 = some L ∧ Z 44 t = nI k ∧ k ≤ 30 ∧ plan S P I a n m L k (fun j => Z 43 (120 * t + j))
/-- what OneEyeModel keeps, as numbers of its own -/
def unimg (Z : zT) : zT := fun f i => match f with
  | 1 => if i < 1 then Z 63 (0) else nI 0
  | 16 => if i < 1 then Z 63 (1) else nI 0
  | 8 => if i < 10 then Z 63 (2 + i) else nI 0
  | 22 => if i < 1 then Z 63 (12) else nI 0
  | 23 => if i < 99 then Z 63 (13 + 5 * i) else nI 0
  | 24 => if i < 99 then Z 63 (14 + 5 * i) else nI 0
  | 25 => if i < 99 then Z 63 (15 + 5 * i) else nI 0
  | 26 => if i < 99 then Z 63 (16 + 5 * i) else nI 0
  | 27 => if i < 99 then Z 63 (17 + 5 * i) else nI 0
  | 2 => if i < 1 then Z 63 (508) else nI 0
  | 3 => if i < 4 then Z 63 (509 + 10 * i) else nI 0
  | 4 => if i < 4 then Z 63 (510 + 10 * i) else nI 0
  | 5 => if i < 4 then Z 63 (511 + 10 * i) else nI 0
  | 6 => if i < 4 then Z 63 (512 + 10 * i) else nI 0
  | 28 => if i < 4 then Z 63 (513 + 10 * i) else nI 0
  | 29 => if i < 4 then Z 63 (514 + 10 * i) else nI 0
  | 30 => if i < 4 then Z 63 (515 + 10 * i) else nI 0
  | 31 => if i < 4 then Z 63 (516 + 10 * i) else nI 0
  | 44 => if i < 4 then Z 63 (517 + 10 * i) else nI 0
  | 45 => if i < 4 then Z 63 (518 + 10 * i) else nI 0
  | 7 => if i < 12 then Z 63 (549 + i) else nI 0
  | 9 => if i < 120 then Z 63 (561 + 5 * i) else nI 0
  | 12 => if i < 120 then Z 63 (562 + 5 * i) else nI 0
  | 13 => if i < 120 then Z 63 (563 + 5 * i) else nI 0
  | 14 => if i < 120 then Z 63 (564 + 5 * i) else nI 0
  | 15 => if i < 120 then Z 63 (565 + 5 * i) else nI 0
  | 10 => if i < 48 then Z 63 (1161 + i) else nI 0
  | 11 => if i < 36 then Z 63 (1209 + i) else nI 0
  | 43 => if i < 480 then Z 63 (1245 + i) else nI 0
  | 50 => if i < 108 then Z 63 (1725 + i) else nI 0
  | 52 => if i < 9 then Z 63 (1833 + 2 * i) else nI 0
  | 53 => if i < 9 then Z 63 (1834 + 2 * i) else nI 0
  | 55 => if i < 1 then Z 63 (1851) else nI 0
  | 56 => if i < 9 then Z 63 (1852 + i) else nI 0
  | 58 => if i < 36 then Z 63 (1861 + i) else nI 0
  | 17 => if i < 1 then Z 63 (1897) else nI 0
  | 18 => if i < 1 then Z 63 (1898) else nI 0
  | 19 => if i < 20 then Z 63 (1899 + i) else nI 0
  | 20 => if i < 12 then Z 63 (1919 + i) else nI 0
  | 21 => if i < 4 then Z 63 (1931 + i) else nI 0
  | _ => nI 0
def wtab : List Nat := [32, 103, 105, 118, 101, 32, 115, 101, 101, 32, 115, 97, 121, 32, 108, 105, 101, 32, 114, 101, 115, 116, 32, 102, 101, 101, 108, 32, 116, 111, 32, 101, 121, 101, 32, 101, 97, 114, 32, 109, 111, 117, 116, 104, 32]
def XN (Y Z : zT) : Prop := Y 34 0 = Z 34 0 ∧ Y 41 0 = Z 41 0 ∧ Y 42 0 = Z 42 0 ∧ Y 61 0 = Z 61 0 ∧ (∀ i, i < 400 → Y 33 i &&& 255 = Z 33 i ∧ isby (Y 33 i) = true) ∧ (∀ i, i < 45 → Z 32 i = nI (wtab.getD i 0)) ∧ ∀ i, i < 3 → Y 217 i = nI 0
def KR (S : sT) (P : pT) (Y I : zT) (a n w : Nat) (Z : zT) : Prop := Z 61 0 = nI 0 ∨ (Z 61 0 = nI 1 ∧ ∃ m nn nl nw, VN m nn nl nw (fun f => Y (f + 100)) (unimg Z) ∧ MB (unimg Z) ∧ MC m nl (unimg Z) ∧ PLr S P I a n m w (unimg Z))
/-- all of it -/
def Rel (a v w : Nat) (S : sT) (P : pT) (Y I : zT) (n : Nat) (Z : zT) (m nn nl nw : Nat) : Prop :=
  LO S P a v w ∧ a + 741 ≤ n ∧ XN Y Z ∧ VN m nn nl nw Y Z ∧ MB Z ∧ MC m nl Z ∧ PLr S P I a n m v Z ∧ KR S P Y I a n w Z
theorem VN_1 {m nn nl nw : Nat} {Y Z : zT} (h : VN m nn nl nw Y Z) : Y 1 0 = Z 1 0 := h.2.2.1 1 0 Nat.one_pos
theorem VN_2 {m nn nl nw : Nat} {Y Z : zT} (h : VN m nn nl nw Y Z) : Y 2 0 = Z 2 0 := h.2.2.1 2 0 Nat.one_pos
theorem VN_16 {m nn nl nw : Nat} {Y Z : zT} (h : VN m nn nl nw Y Z) : Y 16 0 = Z 16 0 := h.2.2.1 16 0 Nat.one_pos
theorem VN_17 {m nn nl nw : Nat} {Y Z : zT} (h : VN m nn nl nw Y Z) : Y 17 0 = Z 17 0 := h.2.2.1 17 0 Nat.one_pos
theorem VN_18 {m nn nl nw : Nat} {Y Z : zT} (h : VN m nn nl nw Y Z) : Y 18 0 = Z 18 0 := h.2.2.1 18 0 Nat.one_pos
theorem VN_22 {m nn nl nw : Nat} {Y Z : zT} (h : VN m nn nl nw Y Z) : Y 22 0 = Z 22 0 := h.2.2.1 22 0 Nat.one_pos
theorem VN_55 {m nn nl nw : Nat} {Y Z : zT} (h : VN m nn nl nw Y Z) : Y 55 0 = Z 55 0 := h.2.2.1 55 0 Nat.one_pos
theorem VN_3 {m nn nl nw i : Nat} {Y Z : zT} (h : VN m nn nl nw Y Z) (hi : i < 4) : Y 3 i = Z 3 i := h.2.2.1 3 i hi
theorem VN_4 {m nn nl nw i : Nat} {Y Z : zT} (h : VN m nn nl nw Y Z) (hi : i < 4) : Y 4 i = Z 4 i := h.2.2.1 4 i hi
theorem VN_5 {m nn nl nw i : Nat} {Y Z : zT} (h : VN m nn nl nw Y Z) (hi : i < 4) : Y 5 i = Z 5 i := h.2.2.1 5 i hi
theorem VN_6 {m nn nl nw i : Nat} {Y Z : zT} (h : VN m nn nl nw Y Z) (hi : i < 4) : Y 6 i = Z 6 i := h.2.2.1 6 i hi
theorem VN_21 {m nn nl nw i : Nat} {Y Z : zT} (h : VN m nn nl nw Y Z) (hi : i < 4) : Y 21 i = Z 21 i := h.2.2.1 21 i hi
theorem VN_29 {m nn nl nw i : Nat} {Y Z : zT} (h : VN m nn nl nw Y Z) (hi : i < 4) : Y 29 i = Z 29 i := h.2.2.1 29 i hi
theorem VN_45 {m nn nl nw i : Nat} {Y Z : zT} (h : VN m nn nl nw Y Z) (hi : i < 4) : Y 45 i = Z 45 i := h.2.2.1 45 i hi
theorem VN_7 {m nn nl nw i : Nat} {Y Z : zT} (h : VN m nn nl nw Y Z) (hi : i < 12) : Y 7 i = Z 7 i := h.2.2.1 7 i hi
theorem VN_8 {m nn nl nw i : Nat} {Y Z : zT} (h : VN m nn nl nw Y Z) (hi : i < 10) : Y 8 i = Z 8 i := h.2.2.1 8 i hi
theorem VN_9 {m nn nl nw i : Nat} {Y Z : zT} (h : VN m nn nl nw Y Z) (hi : i < 120) : Y 9 i = Z 9 i := h.2.2.1 9 i hi
theorem VN_10 {m nn nl nw i : Nat} {Y Z : zT} (h : VN m nn nl nw Y Z) (hi : i < 12 * m) : Y 10 i = Z 10 i := h.2.2.1 10 i hi
theorem VN_11 {m nn nl nw i : Nat} {Y Z : zT} (h : VN m nn nl nw Y Z) (hi : i < 36) : Y 11 i = Z 11 i := h.2.2.1 11 i hi
theorem VN_12 {m nn nl nw i : Nat} {Y Z : zT} (h : VN m nn nl nw Y Z) (hi : i < 120) : Y 12 i = Z 12 i := h.2.2.1 12 i hi
theorem VN_13 {m nn nl nw i : Nat} {Y Z : zT} (h : VN m nn nl nw Y Z) (hi : i < 120) : Y 13 i = Z 13 i := h.2.2.1 13 i hi
theorem VN_14 {m nn nl nw i : Nat} {Y Z : zT} (h : VN m nn nl nw Y Z) (hi : i < 120) : Y 14 i = Z 14 i := h.2.2.1 14 i hi
theorem VN_15 {m nn nl nw i : Nat} {Y Z : zT} (h : VN m nn nl nw Y Z) (hi : i < 120) : Y 15 i = Z 15 i := h.2.2.1 15 i hi
theorem VN_19 {m nn nl nw i : Nat} {Y Z : zT} (h : VN m nn nl nw Y Z) (hi : i < nn) : Y 19 i = Z 19 i := h.2.2.1 19 i hi
theorem VN_20 {m nn nl nw i : Nat} {Y Z : zT} (h : VN m nn nl nw Y Z) (hi : i < 12) : Y 20 i = Z 20 i := h.2.2.1 20 i hi
theorem VN_23 {m nn nl nw i : Nat} {Y Z : zT} (h : VN m nn nl nw Y Z) (hi : i < nl) : Y 23 i = Z 23 i := h.2.2.1 23 i hi
theorem VN_24 {m nn nl nw i : Nat} {Y Z : zT} (h : VN m nn nl nw Y Z) (hi : i < nl) : Y 24 i = Z 24 i := h.2.2.1 24 i hi
theorem VN_25 {m nn nl nw i : Nat} {Y Z : zT} (h : VN m nn nl nw Y Z) (hi : i < nl) : Y 25 i = Z 25 i := h.2.2.1 25 i hi
theorem VN_26 {m nn nl nw i : Nat} {Y Z : zT} (h : VN m nn nl nw Y Z) (hi : i < nl) : Y 26 i = Z 26 i := h.2.2.1 26 i hi
theorem VN_27 {m nn nl nw i : Nat} {Y Z : zT} (h : VN m nn nl nw Y Z) (hi : i < nl) : Y 27 i = Z 27 i := h.2.2.1 27 i hi
theorem VN_50 {m nn nl nw i : Nat} {Y Z : zT} (h : VN m nn nl nw Y Z) (hi : i < 108) : Y 50 i = Z 50 i := h.2.2.1 50 i hi
theorem VN_52 {m nn nl nw i : Nat} {Y Z : zT} (h : VN m nn nl nw Y Z) (hi : i < 9) : Y 52 i = Z 52 i := h.2.2.1 52 i hi
theorem VN_56 {m nn nl nw i : Nat} {Y Z : zT} (h : VN m nn nl nw Y Z) (hi : i < nw) : Y 56 i = Z 56 i := h.2.2.1 56 i hi
theorem VN_58 {m nn nl nw i : Nat} {Y Z : zT} (h : VN m nn nl nw Y Z) (hi : i < 36) : Y 58 i = Z 58 i := h.2.2.1 58 i hi
theorem lim_big {m nn nl nw f : Nat} (h : 66 ≤ f) : lim m nn nl nw f = 0 := by
  unfold lim
  split <;> first | omega | rfl
theorem VN_m {m nn nl nw : Nat} {Y Z : zT} (h : VN m nn nl nw Y Z) : Z 2 0 = nI m := h.1.1
theorem VN_nn {m nn nl nw : Nat} {Y Z : zT} (h : VN m nn nl nw Y Z) : Z 18 0 = nI nn := h.1.2.1
theorem VN_nl {m nn nl nw : Nat} {Y Z : zT} (h : VN m nn nl nw Y Z) : Z 22 0 = nI nl := h.1.2.2.1
theorem VN_nw {m nn nl nw : Nat} {Y Z : zT} (h : VN m nn nl nw Y Z) : Z 55 0 = nI nw := h.1.2.2.2
theorem VN_65 {m nn nl nw t : Nat} {Y Z : zT} (h : VN m nn nl nw Y Z) (ht : t < 4) : Y 65 t = nI t := h.2.2.2.2.1 t ht
theorem VN_53 {m nn nl nw t : Nat} {Y Z : zT} (h : VN m nn nl nw Y Z) (ht : t < 9) : Y 53 t = Z 53 t + nI 1 := h.2.2.2.2.2.1 t ht
theorem MB_at {Z : zT} (h : MB Z) (f i : Nat) (hf : hib f ≠ 0) : ∃ k, k ≤ hib f ∧ Z f i = nI k := h f i hf
theorem MB_set {Z : zT} {f i : Nat} {x : Int32} (h : MB Z) (hx : hib f = 0 ∨ ∃ k, k ≤ hib f ∧ x = nI k) : MB (zset Z f i x) := by
  intro g j hg
  by_cases e : g = f ∧ j = i
  · obtain ⟨rfl, rfl⟩ := e
    rw [zr_eq]
    rcases hx with hx | hx
    · exact absurd hx hg
    · exact hx
  · rw [show zset Z f i x g j = Z g j from if_neg e]
    exact h g j hg
/-- fields of OneEyeModel that the relation doesn't look at -/
def sc (f : Nat) : Bool := (f == 0) || (f == 35) || (f == 36) || (f == 37) || (f == 38) || (f == 39) || (f == 40) || (f == 46) || (f == 47) || (f == 48) || (f == 49) || (f == 51) || (f == 54) || (f == 57) || (f == 59) || (f == 60) || (f == 62)
theorem sc_eq' {f : Nat} (h : sc f = true) : f = 0 ∨ f = 35 ∨ f = 36 ∨ f = 37 ∨ f = 38 ∨ f = 39 ∨ f = 40 ∨ f = 46 ∨ f = 47 ∨ f = 48 ∨ f = 49 ∨ f = 51 ∨ f = 54 ∨ f = 57 ∨ f = 59 ∨ f = 60 ∨ f = 62 := by
  simp only [sc, Bool.or_eq_true, beq_iff_eq] at h
  omega
theorem sc_lim {f : Nat} (h : sc f = true) (m nn nl nw : Nat) : lim m nn nl nw f = 0 := by
  rcases sc_eq' h with rfl | rfl | rfl | rfl | rfl | rfl | rfl | rfl | rfl | rfl | rfl | rfl | rfl | rfl | rfl | rfl | rfl <;> rfl
theorem sc_hib {f : Nat} (h : sc f = true) : hib f = 0 := by
  rcases sc_eq' h with rfl | rfl | rfl | rfl | rfl | rfl | rfl | rfl | rfl | rfl | rfl | rfl | rfl | rfl | rfl | rfl | rfl <;> rfl
theorem sc_z {Z : zT} {f i g : Nat} {x : Int32} (h : sc f = true) (hg : sc g = false) : zset Z f i x g = Z g := zs_ne (by rintro rfl; rw [h] at hg; cases hg)
theorem VN_z {m nn nl nw : Nat} {Y Z : zT} {f i : Nat} {x : Int32} (hf : sc f = true) (h : VN m nn nl nw Y Z) : VN m nn nl nw Y (zset Z f i x) := by
  unfold VN at h ⊢
  rw [sc_z (g := 2) hf rfl, sc_z (g := 18) hf rfl, sc_z (g := 22) hf rfl, sc_z (g := 55) hf rfl, sc_z (g := 53) hf rfl, sc_z (g := 28) hf rfl, sc_z (g := 30) hf rfl, sc_z (g := 31) hf rfl]
  refine ⟨h.1, h.2.1, fun g j hj => ?_, h.2.2.2⟩
  rw [h.2.2.1 g j hj]
  refine (zr_ne ?_).symm
  rintro rfl
  rw [sc_lim hf] at hj
  exact absurd hj (Nat.not_lt_zero _)
theorem MC_z {m nl : Nat} {Z : zT} {f i : Nat} {x : Int32} (hf : sc f = true) (h : MC m nl Z) : MC m nl (zset Z f i x) := by
  unfold MC at h ⊢
  rw [sc_z (g := 28) hf rfl, sc_z (g := 29) hf rfl, sc_z (g := 30) hf rfl, sc_z (g := 31) hf rfl, sc_z (g := 7) hf rfl, sc_z (g := 5) hf rfl, sc_z (g := 6) hf rfl, sc_z (g := 21) hf rfl, sc_z (g := 44) hf rfl, sc_z (g := 45) hf rfl, sc_z (g := 3) hf rfl, sc_z (g := 23) hf rfl]
  exact h
theorem unimg_z {Z Z' : zT} (h : Z' 63 = Z 63) : unimg Z' = unimg Z := by
  unfold unimg
  rw [h]
/-- OneEyeModel's scratch numbers don't matter -/
theorem R_z {a v w n m nn nl nw : Nat} {S : sT} {P : pT} {Y I Z : zT} {f i : Nat} {x : Int32} (hf : sc f = true) (h : Rel a v w S P Y I n Z m nn nl nw) : Rel a v w S P Y I n (zset Z f i x) m nn nl nw := by
  obtain ⟨h1, h2, h3, h4, h5, h6, h7, h8⟩ := h
  refine ⟨h1, h2, ?_, VN_z hf h4, MB_set h5 (Or.inl (sc_hib hf)), MC_z hf h6, ?_, ?_⟩
  · unfold XN at h3 ⊢
    rw [sc_z (g := 34) hf rfl, sc_z (g := 41) hf rfl, sc_z (g := 42) hf rfl, sc_z (g := 61) hf rfl, sc_z (g := 33) hf rfl, sc_z (g := 32) hf rfl]
    exact h3
  · unfold PLr at h7 ⊢
    rw [sc_z (g := 44) hf rfl, sc_z (g := 43) hf rfl]
    exact h7
  · unfold KR at h8 ⊢
    rw [unimg_z (sc_z (g := 63) hf rfl), sc_z (g := 61) hf rfl]
    exact h8
/-- OneEye's scratch numbers don't matter -/
theorem VN_y {m nn nl nw : Nat} {Y Y' Z : zT} (hy : ∀ f, f < 66 → Y' f = Y f) (h : VN m nn nl nw Y Z) : VN m nn nl nw Y' Z := by
  unfold VN at h ⊢
  rw [hy 10 (by omega), hy 65 (by omega), hy 53 (by omega), hy 28 (by omega), hy 30 (by omega), hy 31 (by omega)]
  refine ⟨h.1, h.2.1, fun g j hj => ?_, h.2.2.2⟩
  rw [← h.2.2.1 g j hj]
  have hg : g < 66 := by
    refine Classical.byContradiction fun c => ?_
    rw [lim_big (by omega)] at hj
    exact absurd hj (Nat.not_lt_zero _)
  rw [hy g hg]
theorem R_y {a v w n m nn nl nw : Nat} {S : sT} {P : pT} {Y I Z : zT} {f i : Nat} {x : Int32} (hf : 200 ≤ f) (hf2 : f ≠ 217) (h : Rel a v w S P Y I n Z m nn nl nw) : Rel a v w S P (zset Y f i x) I n Z m nn nl nw := by
  have hy : ∀ g, g < 200 → zset Y f i x g = Y g := fun g hg => zs_ne (by omega)
  have hy3 : zset Y f i x 217 = Y 217 := zs_ne (Ne.symm hf2)
  obtain ⟨h1, h2, h3, h4, h5, h6, h7, h8⟩ := h
  refine ⟨h1, h2, ?_, VN_y (fun g hg => hy g (by omega)) h4, h5, h6, h7, ?_⟩
  · unfold XN at h3 ⊢
    rw [hy 34 (by omega), hy 41 (by omega), hy 42 (by omega), hy 61 (by omega), hy 33 (by omega), hy3]
    exact h3
  · rcases h8 with h8 | ⟨h8, m', nn', nl', nw', k1, k2⟩
    · exact Or.inl h8
    · exact Or.inr ⟨h8, m', nn', nl', nw', VN_y (fun g hg => hy (g + 100) (by omega)) k1, k2⟩
/-- both sides' same place gets the same value: a plain field -/
def pf (f : Nat) : Bool := (f == 1) || (f == 8) || (f == 9) || (f == 10) || (f == 11) || (f == 12) || (f == 13) || (f == 14) || (f == 15) || (f == 16) || (f == 17) || (f == 19) || (f == 20) || (f == 24) || (f == 25) || (f == 26) || (f == 27) || (f == 4) || (f == 50) || (f == 52) || (f == 56) || (f == 58)
theorem pf_eq {f : Nat} (h : pf f = true) : f = 1 ∨ f = 8 ∨ f = 9 ∨ f = 10 ∨ f = 11 ∨ f = 12 ∨ f = 13 ∨ f = 14 ∨ f = 15 ∨ f = 16 ∨ f = 17 ∨ f = 19 ∨ f = 20 ∨ f = 24 ∨ f = 25 ∨ f = 26 ∨ f = 27 ∨ f = 4 ∨ f = 50 ∨ f = 52 ∨ f = 56 ∨ f = 58 := by
  simp only [pf, Bool.or_eq_true, beq_iff_eq] at h
  omega
theorem pf_z {Z : zT} {f i g : Nat} {x : Int32} (h : pf f = true) (hg : pf g = false) : zset Z f i x g = Z g := zs_ne (by rintro rfl; rw [h] at hg; cases hg)
theorem zs_par {Y Z : zT} {f i g j : Nat} {x : Int32} (h : Y g j = Z g j) : zset Y f i x g j = zset Z f i x g j := by
  unfold zset
  split
  · rfl
  · exact h
theorem VN_p {m nn nl nw : Nat} {Y Z : zT} {f i : Nat} {x : Int32} (hf : pf f = true) (hi : f = 10 → i < 12 * m) (h : VN m nn nl nw Y Z) : VN m nn nl nw (zset Y f i x) (zset Z f i x) := by
  unfold VN at h ⊢
  rw [pf_z (g := 2) hf rfl, pf_z (g := 18) hf rfl, pf_z (g := 22) hf rfl, pf_z (g := 55) hf rfl, pf_z (g := 53) hf rfl, pf_z (g := 53) hf rfl, pf_z (g := 28) hf rfl, pf_z (g := 30) hf rfl, pf_z (g := 31) hf rfl, pf_z (g := 28) hf rfl, pf_z (g := 30) hf rfl, pf_z (g := 31) hf rfl, pf_z (g := 65) hf rfl]
  refine ⟨h.1, h.2.1, fun g j hj => zs_par (h.2.2.1 g j hj), fun j h1 h2 => ?_, h.2.2.2.2⟩
  by_cases e : f = 10
  · subst e
    rw [zr_ni (by have := hi rfl; omega)]
    exact h.2.2.2.1 j h1 h2
  · rw [zr_ne (Ne.symm e)]
    exact h.2.2.2.1 j h1 h2
theorem MC_p {m nl : Nat} {Z : zT} {f i : Nat} {x : Int32} (hf : pf f = true) (h : MC m nl Z) : MC m nl (zset Z f i x) := by
  unfold MC at h ⊢
  rw [pf_z (g := 28) hf rfl, pf_z (g := 29) hf rfl, pf_z (g := 30) hf rfl, pf_z (g := 31) hf rfl, pf_z (g := 7) hf rfl, pf_z (g := 5) hf rfl, pf_z (g := 6) hf rfl, pf_z (g := 21) hf rfl, pf_z (g := 44) hf rfl, pf_z (g := 45) hf rfl, pf_z (g := 3) hf rfl, pf_z (g := 23) hf rfl]
  exact h
theorem R_p {a v w n m nn nl nw : Nat} {S : sT} {P : pT} {Y I Z : zT} {f i : Nat} {x : Int32} (hf : pf f = true) (hi : f = 10 → i < 12 * m) (hx : hib f = 0 ∨ ∃ k, k ≤ hib f ∧ x = nI k) (h : Rel a v w S P Y I n Z m nn nl nw) : Rel a v w S P (zset Y f i x) I n (zset Z f i x) m nn nl nw := by
  have h100 : ∀ g, zset Y f i x (g + 100) = Y (g + 100) := fun g => zs_ne (by have := pf_eq hf; omega)
  obtain ⟨h1, h2, h3, h4, h5, h6, h7, h8⟩ := h
  refine ⟨h1, h2, ?_, VN_p hf hi h4, MB_set h5 hx, MC_p hf h6, ?_, ?_⟩
  · unfold XN at h3 ⊢
    rw [pf_z (g := 34) hf rfl, pf_z (g := 41) hf rfl, pf_z (g := 42) hf rfl, pf_z (g := 61) hf rfl, pf_z (g := 33) hf rfl, pf_z (g := 34) hf rfl, pf_z (g := 41) hf rfl, pf_z (g := 42) hf rfl, pf_z (g := 61) hf rfl, pf_z (g := 33) hf rfl, pf_z (g := 32) hf rfl, pf_z (g := 217) hf rfl]
    exact h3
  · unfold PLr at h7 ⊢
    rw [pf_z (g := 44) hf rfl, pf_z (g := 43) hf rfl]
    exact h7
  · unfold KR at h8 ⊢
    rw [unimg_z (pf_z (g := 63) hf rfl), pf_z (g := 61) hf rfl]
    simp only [h100]
    exact h8
