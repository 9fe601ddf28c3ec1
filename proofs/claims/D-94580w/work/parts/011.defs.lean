/-! DEFINITIONS: memories and what is done to them (no walk) -/
abbrev zT : Type := Nat → Nat → Int32
def zset (Z : zT) (k i : Nat) (v : Int32) : zT := fun k' i' => if k' = k ∧ i' = i then v else Z k' i'
abbrev sT : Type := Nat → Nat × Nat
abbrev pT : Type := Nat → Nat → Option Nat
def pset (P : pT) (a j : Nat) (v : Option Nat) : pT := fun a' j' => if a' = a ∧ j' = j then v else P a' j'
def isk (S : sT) (a k : Nat) : Bool := (S a).1 == k
def isst (S : sT) (a : Nat) : Bool := decide (8 ≤ (S a).1) && decide ((S a).1 ≤ 12)
def isby (v : Int32) : Bool := decide (v.toInt8.toInt32 = v)
def jb (x : Int32) : Int32 := x.toInt8.toInt32
def jmax (x y : Int32) : Int32 := if x < y then y else x
def jmin (x y : Int32) : Int32 := if y < x then y else x
def xLen : List Nat := [4, 3, 3, 3, 4, 4, 2, 3, 3, 5]
def xByt : List (List Int32) := [[103, 105, 118, 101], [115, 101, 101], [115, 97, 121], [108, 105, 101], [114, 101, 115, 116], [102, 101, 101, 108], [116, 111], [101, 121, 101], [101, 97, 114], [109, 111, 117, 116, 104]]
def bd3 {α γ δ β : Type} (o : Option (α × γ × δ)) (f : α → γ → δ → Option β) : Option β := match o with
  | some a => f a.1 a.2.1 a.2.2
  | none => none
def snew (S : sT) (q k len : Nat) : sT := fun a => if a = q then (k, len) else S a
def zclr (I : zT) (q : Nat) : zT := fun a j => if a = q then 0 else I a j
def pclr (P : pT) (q : Nat) : pT := fun a j => if a = q then none else P a j
def bd4 {α γ δ ε β : Type} (o : Option (α × γ × δ × ε)) (f : α → γ → δ → ε → Option β) : Option β := match o with
  | some a => f a.1 a.2.1 a.2.2.1 a.2.2.2
  | none => none
def bd5 {α γ δ ε ζ β : Type} (o : Option (α × γ × δ × ε × ζ)) (f : α → γ → δ → ε → ζ → Option β) : Option β := match o with
  | some a => f a.1 a.2.1 a.2.2.1 a.2.2.2.1 a.2.2.2.2
  | none => none
/-- an array of N arrays of M, made at n -/
def smn2 (S : sT) (n k N k2 M : Nat) : sT := fun a => if a = n then (k, N) else if n < a ∧ a ≤ n + N then (k2, M) else S a
def pmn2 (P : pT) (n N : Nat) : pT := fun a j => if a = n then (if j < N then some (n + 1 + j) else none) else if n < a ∧ a ≤ n + N then none else P a j
def imn2 (I : zT) (n N : Nat) : zT := fun a j => if n ≤ a ∧ a ≤ n + N then 0 else I a j
def smn3 (S : sT) (n k N k2 M k3 K : Nat) : sT := fun a => if a = n then (k, N) else if n < a ∧ a ≤ n + N * (1 + M) then (if (a - n - 1) % (1 + M) = 0 then (k2, M) else (k3, K)) else S a
def pmn3 (P : pT) (n N M : Nat) : pT := fun a j => if a = n then (if j < N then some (n + 1 + j * (1 + M)) else none) else if n < a ∧ a ≤ n + N * (1 + M) then (if (a - n - 1) % (1 + M) = 0 then (if j < M then some (a + 1 + j) else none) else none) else P a j
def imn3 (I : zT) (n N M : Nat) : zT := fun a j => if n ≤ a ∧ a ≤ n + N * (1 + M) then 0 else I a j
def isch (v : Int32) : Bool := decide ((v.toUInt32 % 65536).toInt32 = v)
def jc (x : Int32) : Int32 := (x.toUInt32 % 65536).toInt32
def xsl (i : Nat) : Nat := xLen.getD i 0
def xsb (i k : Nat) : Int32 := (xByt.getD i []).getD k 0
def isar (S : sT) (a : Nat) : Bool := decide ((S a).1 = 23) || decide ((S a).1 = 31)
def cap64 (i : Int32) : Bool := decide (¬ i < 0) && decide (ix i ≤ 64)
/-- k references of an array to the front of another -/
def pcp (P : pT) (a b k : Nat) : pT := fun x j => if x = b ∧ j < k then P a j else P x j
/-- what is copied are steps -/
def steps (S : sT) (P : pT) (a k : Nat) : Bool := (List.range k).all (fun i => match P a i with
  | none => true
  | some y => isst S y)
/-- a call that may throw: what is thrown goes on -/
def bdt {ρ ρ' : Type} (o : Option (Option ρ × sT × pT × zT × Nat)) (f : ρ → sT → pT → zT → Nat → Option (Option ρ' × sT × pT × zT × Nat)) : Option (Option ρ' × sT × pT × zT × Nat) := match o with
  | some (some r, S, P, I, n) => f r S P I n
  | some (none, S, P, I, n) => some (none, S, P, I, n)
  | none => none
def fX6_init (I : zT) (a0 : Nat) (a1 a2 : Int32) : zT := zset (zset I a0 0 a1) a0 1 a2
/-- a call that may throw, caught here: the handler goes on with the cell thrown, the last one made -/
def bdc {ρ β : Type} (o : Option (Option ρ × sT × pT × zT × Nat)) (f : ρ → sT → pT → zT → Nat → Option β) (g : sT → pT → zT → Nat → Option β) : Option β := match o with
  | some (some r, S, P, I, n) => f r S P I n
  | some (none, S, P, I, n) => g S P I n
  | none => none
