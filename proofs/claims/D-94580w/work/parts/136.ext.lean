/-! LAYER 2: the relation in a memory that has grown (printed by gen2/ext.py) -/
theorem LV_ext {S S' : sT} {P P' : pT} {a n v : Nat} (hv : v = a + 2 ∨ v = a + 360) (hn : a + 741 ≤ n) (hS : ∀ x, x < n → S' x = S x) (hP : ∀ x j, x < n → (∀ u t, (u = a + 2 ∨ u = a + 360) → t < 4 → x = aT u t → j ≠ 2) → P' x j = P x j) (h : LV S P v) : LV S' P' v := by
  obtain ⟨h0, h1, h2, h3, h4, h5, h6, h7, h8, h9, h10, h11, h12, h13, h14, h15, h16, h17, h18, h19, h20, h21, h22, h23, h24, h25, h26, h27, h28, h29, h30, h31, h32, h33, h34, h35, h36, h37, h38, h39, h40, h41, h42, h43, h44, h45, h46, h47, h48, h49, h50, h51, h52⟩ := h
  refine ⟨(hS _ (by omega)).trans (h0),
    (hP _ _ (by omega) (by intro u s hu hs e; first | decide | (exfalso; revert e; unfold aT; omega))).trans (h1),
    (hS _ (by unfold q0; omega)).trans (h2),
    (hP _ _ (by omega) (by intro u s hu hs e; first | decide | (exfalso; revert e; unfold aT; omega))).trans (h3),
    (hS _ (by unfold q1; omega)).trans (h4),
    (hP _ _ (by omega) (by intro u s hu hs e; first | decide | (exfalso; revert e; unfold aT; omega))).trans (h5),
    (hS _ (by unfold q2; omega)).trans (h6),
    (hP _ _ (by omega) (by intro u s hu hs e; first | decide | (exfalso; revert e; unfold aT; omega))).trans (h7),
    (hS _ (by unfold q3; omega)).trans (h8),
    (hP _ _ (by omega) (by intro u s hu hs e; first | decide | (exfalso; revert e; unfold aT; omega))).trans (h9),
    (hS _ (by unfold q4; omega)).trans (h10),
    (hP _ _ (by omega) (by intro u s hu hs e; first | decide | (exfalso; revert e; unfold aT; omega))).trans (h11),
    (hS _ (by unfold q5; omega)).trans (h12),
    (hP _ _ (by omega) (by intro u s hu hs e; first | decide | (exfalso; revert e; unfold aT; omega))).trans (h13),
    (hS _ (by unfold q6; omega)).trans (h14),
    (hP _ _ (by omega) (by intro u s hu hs e; first | decide | (exfalso; revert e; unfold aT; omega))).trans (h15),
    (hS _ (by unfold q7; omega)).trans (h16),
    (hP _ _ (by omega) (by intro u s hu hs e; first | decide | (exfalso; revert e; unfold aT; omega))).trans (h17),
    (hS _ (by unfold q8; omega)).trans (h18),
    (hP _ _ (by omega) (by intro u s hu hs e; first | decide | (exfalso; revert e; unfold aT; omega))).trans (h19),
    (hS _ (by unfold q9; omega)).trans (h20),
    (hP _ _ (by omega) (by intro u s hu hs e; first | decide | (exfalso; revert e; unfold aT; omega))).trans (h21),
    (hS _ (by unfold q10; omega)).trans (h22),
    (hP _ _ (by omega) (by intro u s hu hs e; first | decide | (exfalso; revert e; unfold aT; omega))).trans (h23),
    (hS _ (by unfold q11; omega)).trans (h24),
    (hP _ _ (by omega) (by intro u s hu hs e; first | decide | (exfalso; revert e; unfold aT; omega))).trans (h25),
    (hS _ (by unfold q12; omega)).trans (h26),
    (hP _ _ (by omega) (by intro u s hu hs e; first | decide | (exfalso; revert e; unfold aT; omega))).trans (h27),
    (hS _ (by unfold q13; omega)).trans (h28),
    fun t g0 => (hP _ _ (by unfold q0; omega) (by intro u s hu hs e; first | decide | (exfalso; revert e; unfold aT q0; omega))).trans (h29 t g0),
    fun t g0 => (hS _ (by unfold aT; omega)).trans (h30 t g0),
    fun t g0 => (hP _ _ (by unfold aT; omega) (by intro u s hu hs e; first | decide | (exfalso; revert e; unfold aT aT; omega))).trans (h31 t g0),
    fun t g0 => (hS _ (by unfold aW; omega)).trans (h32 t g0),
    fun t g0 => (hP _ _ (by unfold q1; omega) (by intro u s hu hs e; first | decide | (exfalso; revert e; unfold aT q1; omega))).trans (h33 t g0),
    fun t g0 => (hS _ (by unfold aK; omega)).trans (h34 t g0),
    fun t g0 => (hP _ _ (by unfold q2; omega) (by intro u s hu hs e; first | decide | (exfalso; revert e; unfold aT q2; omega))).trans (h35 t g0),
    fun t g0 => (hS _ (by unfold aH; omega)).trans (h36 t g0),
    fun t g0 => (hP _ _ (by unfold q3; omega) (by intro u s hu hs e; first | decide | (exfalso; revert e; unfold aT q3; omega))).trans (h37 t g0),
    fun t g0 => (hS _ (by unfold aB; omega)).trans (h38 t g0),
    fun t g0 => (hP _ _ (by unfold q4; omega) (by intro u s hu hs e; first | decide | (exfalso; revert e; unfold aT q4; omega))).trans (h39 t g0),
    fun t g0 => (hS _ (by unfold aO; omega)).trans (h40 t g0),
    fun t g0 => (hP _ _ (by unfold q7; omega) (by intro u s hu hs e; first | decide | (exfalso; revert e; unfold aT q7; omega))).trans (h41 t g0),
    fun t g0 => (hS _ (by unfold aR; omega)).trans (h42 t g0),
    fun t g0 => (hP _ _ (by unfold q9; omega) (by intro u s hu hs e; first | decide | (exfalso; revert e; unfold aT q9; omega))).trans (h43 t g0),
    fun t g0 => (hS _ (by unfold aD; omega)).trans (h44 t g0),
    fun t g0 => (hP _ _ (by unfold q10; omega) (by intro u s hu hs e; first | decide | (exfalso; revert e; unfold aT q10; omega))).trans (h45 t g0),
    fun t g0 => (hS _ (by unfold aL; omega)).trans (h46 t g0),
    fun t k g0 g1 => (hP _ _ (by unfold aO; omega) (by intro u s hu hs e; first | decide | (exfalso; revert e; unfold aT aO; omega))).trans (h47 t k g0 g1),
    fun t k g0 g1 => (hS _ (by unfold aG; omega)).trans (h48 t k g0 g1),
    fun t k g0 g1 => (hP _ _ (by unfold aD; omega) (by intro u s hu hs e; first | decide | (exfalso; revert e; unfold aT aD; omega))).trans (h49 t k g0 g1),
    fun t k g0 g1 => (hS _ (by unfold aD3; omega)).trans (h50 t k g0 g1),
    fun t k g0 g1 => (hP _ _ (by unfold aL; omega) (by intro u s hu hs e; first | decide | (exfalso; revert e; unfold aT aL; omega))).trans (h51 t k g0 g1),
    fun t k g0 g1 => (hS _ (by unfold aL3; omega)).trans (h52 t k g0 g1)⟩
theorem LA_ext {S S' : sT} {P P' : pT} {a n : Nat} (hn : a + 741 ≤ n) (hS : ∀ x, x < n → S' x = S x) (hP : ∀ x j, x < n → (∀ u t, (u = a + 2 ∨ u = a + 360) → t < 4 → x = aT u t → j ≠ 2) → P' x j = P x j) (h : LA S P a) : LA S' P' a := by
  obtain ⟨h0, h1, h2, h3, h4, h5, h6, h7, h8, h9, h10, h11, h12, h13, h14, h15, h16, h17, h18, h19, h20, h21, h22, h23, h24⟩ := h
  refine ⟨(hS _ (by omega)).trans (h0),
    (hP _ _ (by omega) (by intro u s hu hs e; first | decide | (exfalso; revert e; unfold aT; omega))).trans (h1),
    (hS _ (by unfold o0; omega)).trans (h2),
    (hP _ _ (by omega) (by intro u s hu hs e; first | decide | (exfalso; revert e; unfold aT; omega))).trans (h3),
    (hS _ (by unfold o7; omega)).trans (h4),
    (hP _ _ (by omega) (by intro u s hu hs e; first | decide | (exfalso; revert e; unfold aT; omega))).trans (h5),
    (hS _ (by unfold o8; omega)).trans (h6),
    (hP _ _ (by omega) (by intro u s hu hs e; first | decide | (exfalso; revert e; unfold aT; omega))).trans (h7),
    (hS _ (by unfold o9; omega)).trans (h8),
    (hP _ _ (by omega) (by intro u s hu hs e; first | decide | (exfalso; revert e; unfold aT; omega))).trans (h9),
    (hS _ (by unfold o10; omega)).trans (h10),
    (hP _ _ (by omega) (by intro u s hu hs e; first | decide | (exfalso; revert e; unfold aT; omega))).trans (h11),
    (hS _ (by unfold o12; omega)).trans (h12),
    (hP _ _ (by omega) (by intro u s hu hs e; first | decide | (exfalso; revert e; unfold aT; omega))).trans (h13),
    (hS _ (by unfold o13; omega)).trans (h14),
    (hP _ _ (by omega) (by intro u s hu hs e; first | decide | (exfalso; revert e; unfold aT; omega))).trans (h15),
    (hS _ (by unfold o14; omega)).trans (h16),
    (hP _ _ (by omega) (by intro u s hu hs e; first | decide | (exfalso; revert e; unfold aT; omega))).trans (h17),
    (hS _ (by unfold o15; omega)).trans (h18),
    (hP _ _ (by omega) (by intro u s hu hs e; first | decide | (exfalso; revert e; unfold aT; omega))).trans (h19),
    (hS _ (by unfold o16; omega)).trans (h20),
    (hP _ _ (by omega) (by intro u s hu hs e; first | decide | (exfalso; revert e; unfold aT; omega))).trans (h21),
    (hS _ (by unfold o17; omega)).trans (h22),
    fun t g0 => (hP _ _ (by unfold o13; omega) (by intro u s hu hs e; first | decide | (exfalso; revert e; unfold aT o13; omega))).trans (h23 t g0),
    fun t g0 => (hS _ (by unfold aLe; omega)).trans (h24 t g0)⟩
theorem LO_ext {S S' : sT} {P P' : pT} {a n v w : Nat} (hn : a + 741 ≤ n) (hS : ∀ x, x < n → S' x = S x) (hP : ∀ x j, x < n → (∀ u t, (u = a + 2 ∨ u = a + 360) → t < 4 → x = aT u t → j ≠ 2) → P' x j = P x j) (h : LO S P a v w) : LO S' P' a v w := by
  obtain ⟨hv, hw, hA, h4, h5, hL, hM⟩ := h
  refine ⟨hv, hw, LA_ext hn hS hP hA, (hP _ _ (by omega) (fun _ _ _ _ _ => by decide)).trans h4, (hP _ _ (by omega) (fun _ _ _ _ _ => by decide)).trans h5, LV_ext (Or.inl hv) hn hS hP hL, LV_ext (Or.inr hw) hn hS hP hM⟩
theorem okp_ext {a n n' x : Nat} (hn : n ≤ n') (h : okp a n x) : okp a n' x := ⟨by have := h.1; omega, h.2⟩
theorem okp_nt {a n x u t : Nat} (hn : a + 741 ≤ n) (h : okp a n x) (hu : u = a + 2 ∨ u = a + 360) (ht : t < 4) : x ≠ aT u t := by
  rintro rfl
  rcases h.2 with h | ⟨u', t', hu', ht', e⟩
  · unfold aT at h; omega
  · unfold aT aQ at e; omega
theorem stepR_ext {m m' : Nat} {S S' : sT} {I I' : zT} {s : Nat} {w x y : Int32} (hm : m ≤ m') (hS : S' s = S s) (hI : I' s = I s) (h : stepR m S I s w x y) : stepR m' S' I' s w x y := by
  unfold stepR at h ⊢
  rw [hS, hI]
  rcases h with h | h | ⟨h1, h2, i, j, h3, h4, h5⟩ | h | h
  · exact Or.inl h
  · exact Or.inr (Or.inl h)
  · exact Or.inr (Or.inr (Or.inl ⟨h1, h2, i, j, h3, by omega, h5⟩))
  · exact Or.inr (Or.inr (Or.inr (Or.inl h)))
  · exact Or.inr (Or.inr (Or.inr (Or.inr h)))
theorem plan_ext {S S' : sT} {P P' : pT} {I I' : zT} {a n n' m m' L k : Nat} {f : Nat → Int32} (ha : a + 741 ≤ n) (hn : n ≤ n') (hm : m ≤ m') (hS : ∀ x, x < n → S' x = S x) (hP : ∀ x j, x < n → (∀ u t, (u = a + 2 ∨ u = a + 360) → t < 4 → x = aT u t → j ≠ 2) → P' x j = P x j) (hI : ∀ x, x < n → I' x = I x) (h : plan S P I a n m L k f) : plan S' P' I' a n' m' L k f := by
  obtain ⟨h1, h2, h3, h4⟩ := h
  have hL : L < n := h1.1
  refine ⟨okp_ext hn h1, (hS L hL).trans h2, ?_, fun hk => ?_⟩
  · rw [hI L hL]; exact h3
  · obtain ⟨q, c, g1, g2, g3, g4, g5, g6, g7⟩ := h4 hk
    refine ⟨q, c, (hP L 1 hL (fun _ _ _ _ _ => by decide)).trans g1, g2, by omega, (hS q g3).trans g4, g5, g6, fun j hj => ?_⟩
    obtain ⟨s, e1, e2, e3, e4⟩ := g7 j hj
    refine ⟨s, (hP q j g3 (fun u t hu ht e => ?_)).trans e1, e2, by omega, stepR_ext hm (hS s e3) (hI s e3) e4⟩
    exfalso
    revert e
    unfold aT
    omega
theorem PLr_ext {S S' : sT} {P P' : pT} {I I' : zT} {a n n' m u : Nat} {Z : zT} (ha : a + 741 ≤ n) (hu : u = a + 2 ∨ u = a + 360) (hn : n ≤ n') (hS : ∀ x, x < n → S' x = S x) (hP : ∀ x j, x < n → P' x j = P x j) (hI : ∀ x, x < n → I' x = I x) (h : PLr S P I a n m u Z) : PLr S' P' I' a n' m u Z := by
  intro t ht
  obtain ⟨L, k, h1, h2, h3, h4⟩ := h t ht
  exact ⟨L, k, (hP _ _ (by unfold aT; omega)).trans h1, h2, h3, plan_ext ha hn (Nat.le_refl _) hS (fun x j hx _ => hP x j hx) hI h4⟩
/-- new cells don't matter -/
theorem R_ext {a v w n m nn nl nw : Nat} {S : sT} {P : pT} {Y I Z : zT} {S' : sT} {P' : pT} {I' : zT} {n' : Nat} (hn : n ≤ n') (hS : ∀ x, x < n → S' x = S x) (hP : ∀ x j, x < n → P' x j = P x j) (hI : ∀ x, x < n → I' x = I x) (hR : Rel a v w S P Y I n Z m nn nl nw) : Rel a v w S' P' Y I' n' Z m nn nl nw := by
  obtain ⟨h1, h2, h3, h4, h5, h6, h7, h8⟩ := hR
  refine ⟨LO_ext h2 hS (fun x j hx _ => hP x j hx) h1, by omega, h3, h4, h5, h6, PLr_ext h2 (Or.inl h1.1) hn hS hP hI h7, ?_⟩
  rcases h8 with k | ⟨k, m', nn', nl', nw', k1, k2, k3, k4⟩
  · exact Or.inl k
  · exact Or.inr ⟨k, m', nn', nl', nw', k1, k2, k3, PLr_ext h2 (Or.inr h1.2.1) hn hS hP hI k4⟩
