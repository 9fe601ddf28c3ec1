/-! BASE: pure options, and the world of OneEyeModel: one object, its 42 arrays; all its numbers are one function Z -/
def gd {α : Type} (b : Bool) (k : Option α) : Option α := match b with
  | true => k
  | false => none
def nm {α β : Type} (v : α) (f : α → β) : β := f v
def nj {α β : Type} (v : α) (f : α → β) : β := f v
def bd {α β : Type} (o : Option α) (f : α → Option β) : Option β := match o with
  | some a => f a
  | none => none
def bdp {α γ β : Type} (o : Option (α × γ)) (f : α → γ → Option β) : Option β := match o with
  | some a => f a.1 a.2
  | none => none
theorem gd_o {α : Type} {b : Bool} {k : Option α} {o : α} (h : gd b k = some o) : b = true ∧ k = some o := by
  cases b
  · cases h
  · exact ⟨rfl, h⟩
theorem nm_o {α β : Type} {v : α} {f : α → β} {o : β} (h : nm v f = o) : ∃ x, x = v ∧ f x = o := ⟨v, rfl, h⟩
theorem nj_o {α β : Type} {v : α} {f : α → β} {o : β} (h : nj v f = o) : ∃ x, x = v ∧ f x = o := ⟨v, rfl, h⟩
theorem bd_o {α β : Type} {o : Option α} {f : α → Option β} {r : β} (h : bd o f = some r) : ∃ a, o = some a ∧ f a = some r := by
  cases o with
  | none => cases h
  | some a => exact ⟨a, rfl, h⟩
theorem bdp_o {α γ β : Type} {o : Option (α × γ)} {f : α → γ → Option β} {r : β} (h : bdp o f = some r) : ∃ a b, o = some (a, b) ∧ f a b = some r := by
  cases o with
  | none => cases h
  | some a => exact ⟨a.1, a.2, rfl, h⟩
theorem if_o {α : Type} {c : Prop} {hc : Decidable c} {a b o : α} (k : c) (h : ite c a b = o) : a = o := (if_pos k).symm.trans h
theorem if_n {α : Type} {c : Prop} {hc : Decidable c} {a b o : α} (k : ¬ c) (h : ite c a b = o) : b = o := (if_neg k).symm.trans h
def ix (i : Int32) : Nat := i.toNatClampNeg
def inb (i : Int32) (n : Nat) : Bool := decide (¬ i < 0) && decide (ix i < n)
theorem inb_o {i : Int32} {n : Nat} (h : inb i n = true) : vp_in i n := by
  intro q
  simp only [inb, Bool.and_eq_true, decide_eq_true_eq] at h
  rcases q with q | q
  · exact h.1 q
  · exact Nat.not_le.mpr h.2 q
theorem inb_i {i : Int32} {n : Nat} (h : vp_in i n) : inb i n = true := by
  simp only [inb, Bool.and_eq_true, decide_eq_true_eq]
  exact ⟨fun q => h (Or.inl q), Nat.not_le.mp fun q => h (Or.inr q)⟩
def isb (v : Int32) : Bool := decide (v = 0) || decide (v = 1)
theorem isb_o {v : Int32} (h : isb v = true) : v = 0 ∨ v = 1 := by
  simpa only [isb, Bool.or_eq_true, decide_eq_true_eq] using h
theorem isb_n {v : Int32} (h : isb v = true) : narrow .boolean (.int v) = .int v := by
  rcases isb_o h with rfl | rfl <;> rfl
theorem isb_f {v : Int32} (h : isb v = true) : fits .boolean (.int v) = true := by
  rcases isb_o h with rfl | rfl <;> rfl
def jr (x y : Int32) : Int32 := x - x / y * y
def js (x y : Int32) : Int32 := x <<< (y &&& 31)
def jsr (x y : Int32) : Int32 := x >>> (y &&& 31)
def jur (x y : Int32) : Int32 := (x.toUInt32 >>> (y.toUInt32 &&& Int32.toUInt32 31)).toInt32
def FU : Nat := 1000000000000
/-- loops: the body over what it does next -/
def it0 {ρ σ : Type} (b : (σ → Option ρ) → σ → Option ρ) : Nat → σ → Option ρ
  | 0, _ => none
  | n + 1, z => b (it0 b n) z
def it1 {ρ σ A : Type} (b : (σ → A → Option ρ) → σ → A → Option ρ) : Nat → σ → A → Option ρ
  | 0, _, _ => none
  | n + 1, z, x => b (it1 b n) z x
def it2 {ρ σ A B : Type} (b : (σ → A → B → Option ρ) → σ → A → B → Option ρ) : Nat → σ → A → B → Option ρ
  | 0, _, _, _ => none
  | n + 1, z, x, y => b (it2 b n) z x y
def it3 {ρ σ A B C : Type} (b : (σ → A → B → C → Option ρ) → σ → A → B → C → Option ρ) : Nat → σ → A → B → C → Option ρ
  | 0, _, _, _, _ => none
  | n + 1, z, x, y, w => b (it3 b n) z x y w
def it4 {ρ σ A B C D : Type} (b : (σ → A → B → C → D → Option ρ) → σ → A → B → C → D → Option ρ) : Nat → σ → A → B → C → D → Option ρ
  | 0, _, _, _, _, _ => none
  | n + 1, z, x, y, w, v => b (it4 b n) z x y w v
def it5 {ρ σ A B C D E : Type} (b : (σ → A → B → C → D → E → Option ρ) → σ → A → B → C → D → E → Option ρ) : Nat → σ → A → B → C → D → E → Option ρ
  | 0, _, _, _, _, _, _ => none
  | n + 1, z, x, y, w, v, u => b (it5 b n) z x y w v u
theorem it0_w {ρ σ : Type} {b : (σ → Option ρ) → σ → Option ρ} {o : ρ} {P : σ → Prop} (h : ∀ k : σ → Option ρ, (∀ z, k z = some o → P z) → ∀ z, b k z = some o → P z) : ∀ (n : Nat) (z : σ), it0 b n z = some o → P z := by
  intro n
  induction n with
  | zero => intro z q; cases q
  | succ n ih => intro z q; exact h (it0 b n) ih z q
theorem it1_w {ρ σ A : Type} {b : (σ → A → Option ρ) → σ → A → Option ρ} {o : ρ} {P : σ → A → Prop} (h : ∀ k : σ → A → Option ρ, (∀ z x, k z x = some o → P z x) → ∀ z x, b k z x = some o → P z x) : ∀ (n : Nat) (z : σ) (x : A), it1 b n z x = some o → P z x := by
  intro n
  induction n with
  | zero => intro z x q; cases q
  | succ n ih => intro z x q; exact h (it1 b n) ih z x q
theorem it2_w {ρ σ A B : Type} {b : (σ → A → B → Option ρ) → σ → A → B → Option ρ} {o : ρ} {P : σ → A → B → Prop} (h : ∀ k : σ → A → B → Option ρ, (∀ z x y, k z x y = some o → P z x y) → ∀ z x y, b k z x y = some o → P z x y) : ∀ (n : Nat) (z : σ) (x : A) (y : B), it2 b n z x y = some o → P z x y := by
  intro n
  induction n with
  | zero => intro z x y q; cases q
  | succ n ih => intro z x y q; exact h (it2 b n) ih z x y q
theorem it3_w {ρ σ A B C : Type} {b : (σ → A → B → C → Option ρ) → σ → A → B → C → Option ρ} {o : ρ} {P : σ → A → B → C → Prop} (h : ∀ k : σ → A → B → C → Option ρ, (∀ z x y w, k z x y w = some o → P z x y w) → ∀ z x y w, b k z x y w = some o → P z x y w) : ∀ (n : Nat) (z : σ) (x : A) (y : B) (w : C), it3 b n z x y w = some o → P z x y w := by
  intro n
  induction n with
  | zero => intro z x y w q; cases q
  | succ n ih => intro z x y w q; exact h (it3 b n) ih z x y w q
theorem it4_w {ρ σ A B C D : Type} {b : (σ → A → B → C → D → Option ρ) → σ → A → B → C → D → Option ρ} {o : ρ} {P : σ → A → B → C → D → Prop} (h : ∀ k : σ → A → B → C → D → Option ρ, (∀ z x y w v, k z x y w v = some o → P z x y w v) → ∀ z x y w v, b k z x y w v = some o → P z x y w v) : ∀ (n : Nat) (z : σ) (x : A) (y : B) (w : C) (v : D), it4 b n z x y w v = some o → P z x y w v := by
  intro n
  induction n with
  | zero => intro z x y w v q; cases q
  | succ n ih => intro z x y w v q; exact h (it4 b n) ih z x y w v q
theorem it5_w {ρ σ A B C D E : Type} {b : (σ → A → B → C → D → E → Option ρ) → σ → A → B → C → D → E → Option ρ} {o : ρ} {P : σ → A → B → C → D → E → Prop} (h : ∀ k : σ → A → B → C → D → E → Option ρ, (∀ z x y w v u, k z x y w v u = some o → P z x y w v u) → ∀ z x y w v u, b k z x y w v u = some o → P z x y w v u) : ∀ (n : Nat) (z : σ) (x : A) (y : B) (w : C) (v : D) (u : E), it5 b n z x y w v u = some o → P z x y w v u := by
  intro n
  induction n with
  | zero => intro z x y w v u q; cases q
  | succ n ih => intro z x y w v u q; exact h (it5 b n) ih z x y w v u q
section RowsAll
variable {p : Program} {l : Launch} {e : Env} {R : Room} {s : State} {m : MethodId} {args : Array Value} {below : List Frame} {meth : Method} {c : Code} {H : Heap} {locs : List Loc} {cells slots : Nat} {Q : State → Prop}
variable {cc : ByteArray} {pc : Nat} {ls : Array Slot} {rest : List Value}
theorem lv_top {x y : Int32} (h : y = x) (k : W p l e R s m args below meth c H locs cells slots Q (F0 m pc ls (.int y :: rest))) : W p l e R s m args below meth c H locs cells slots Q (F0 m pc ls (.int x :: rest)) := h ▸ k
theorem r_irem (hx : p.tables.exec = Jvm.exec) (hb : c.code = cc) {x y : Int32} (d : decode cc pc = .ok (.irem, 1)) (hne : ¬ y = 0) (k : W p l e R s m args below meth c H locs cells slots Q (F0 m (pc + 1) ls (.int (jr x y) :: rest))) : W p l e R s m args below meth c H locs cells slots Q (F0 m pc ls (.int y :: .int x :: rest)) := lv_irem hx hb d hne k
theorem r_ishl (hx : p.tables.exec = Jvm.exec) (hb : c.code = cc) {x y : Int32} (d : decode cc pc = .ok (.ishl, 1)) (k : W p l e R s m args below meth c H locs cells slots Q (F0 m (pc + 1) ls (.int (js x y) :: rest))) : W p l e R s m args below meth c H locs cells slots Q (F0 m pc ls (.int y :: .int x :: rest)) := lv_ishl hx hb d k
theorem r_ishr (hx : p.tables.exec = Jvm.exec) (hb : c.code = cc) {x y : Int32} (d : decode cc pc = .ok (.ishr, 1)) (k : W p l e R s m args below meth c H locs cells slots Q (F0 m (pc + 1) ls (.int (jsr x y) :: rest))) : W p l e R s m args below meth c H locs cells slots Q (F0 m pc ls (.int y :: .int x :: rest)) := lv_ishr hx hb d k
theorem r_iushr (hx : p.tables.exec = Jvm.exec) (hb : c.code = cc) {x y : Int32} (d : decode cc pc = .ok (.iushr, 1)) (k : W p l e R s m args below meth c H locs cells slots Q (F0 m (pc + 1) ls (.int (jur x y) :: rest))) : W p l e R s m args below meth c H locs cells slots Q (F0 m pc ls (.int y :: .int x :: rest)) := lv_iushr hx hb d rfl k
theorem r_iinc (hx : p.tables.exec = Jvm.exec) (hb : c.code = cc) {i nL k : Nat} {n : Int} {x w v : Int32} {lv lv' : List (Nat × Value)} (d : decode cc pc = .ok (.iinc i n, 3)) (h : lv_has ls nL lv) (hk : lv[k]? = some (i, .int x)) (hw : Int32.ofInt n = w) (hv : v = x + w) (hn : i < nL) (hl : (i, Value.int v) :: lv.filter (fun q => !(q.1 == i) && !(q.1 + 1 == i && q.2.category == 2)) = lv')
    (kk : ∀ ls' : Array Slot, lv_has ls' nL lv' → W p l e R s m args below meth c H locs cells slots Q (F0 m (pc + 3) ls' rest)) : W p l e R s m args below meth c H locs cells slots Q (F0 m pc ls rest) := lv_iinc (v := v) hx hb d h hk (by rw [hw, hv]) hn hl kk
end RowsAll
