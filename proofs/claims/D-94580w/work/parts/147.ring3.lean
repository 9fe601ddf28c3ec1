/-! LAYER 2: rings: OneEyeModel's answer, the operation -/
theorem it1_ue {ρ σ : Type} {b : (σ → Int32 → Option ρ) → σ → Int32 → Option ρ} {Q : Option ρ → Prop} {N : Nat} (Inv : Nat → σ → Prop) (hs : ∀ k i s, i < N → Inv i s → Q (b k s (nI i)) ∨ ∃ s', b k s (nI i) = k s' (nI (i + 1)) ∧ Inv (i + 1) s') (he : ∀ k s, Inv N s → Q (b k s (nI N))) {F : Nat} {s : σ} (hF : N < F) (h0 : Inv 0 s) : Q (it1 b F s (nI 0)) := by
  refine it1_m (fun m s x => ∃ i, x = nI i ∧ i + m = N ∧ Inv i s) ?_ F N s (nI 0) hF ⟨0, rfl, by omega, h0⟩
  rintro k m s x ⟨i, rfl, hm, hi⟩
  rcases Nat.eq_zero_or_pos m with rfl | hp
  · obtain rfl : i = N := by omega
    exact Or.inl (he k s hi)
  · rcases hs k i s (by omega) hi with h | ⟨s', h1, h2⟩
    · exact Or.inl h
    · exact Or.inr ⟨m - 1, s', nI (i + 1), by omega, h1, i + 1, rfl, by omega, h2⟩
theorem it2_fr {ρ σ A : Type} {b : (σ → A → Int32 → Option ρ) → σ → A → Int32 → Option ρ} {Q : Option ρ → Prop} {N i0 : Nat} (Inv : Nat → σ → A → Prop) (hs : ∀ k i s x, i0 ≤ i → i < N → Inv i s x → ∃ s' x', b k s x (nI i) = k s' x' (nI (i + 1)) ∧ Inv (i + 1) s' x') (he : ∀ k s x, Inv N s x → Q (b k s x (nI N))) {F : Nat} {s : σ} {x : A} (hi : i0 ≤ N) (hF : N < F) (h0 : Inv i0 s x) : Q (it2 b F s x (nI i0)) := by
  refine it2_m (fun m s x y => ∃ i, y = nI i ∧ i + m = N ∧ i0 ≤ i ∧ Inv i s x) ?_ F (N - i0) s x (nI i0) (by omega) ⟨i0, rfl, by omega, Nat.le_refl _, h0⟩
  rintro k m s x y ⟨i, rfl, hm, hi, hv⟩
  rcases Nat.eq_zero_or_pos m with rfl | hp
  · obtain rfl : i = N := by omega
    exact Or.inl (he k s x hv)
  · obtain ⟨s', x', h1, h2⟩ := hs k i s x hi (by omega) hv
    exact Or.inr ⟨m - 1, s', x', nI (i + 1), by omega, h1, i + 1, rfl, by omega, by omega, h2⟩
theorem m_clr {Z0 z : zT} {J : zT → Option (Int32 × zT)} (hz : ∀ g, g ≠ 59 → z g = Z0 g) : ∃ z', RW Z0 z' (fun _ => 0) ∧ it1 (lX4_isRing_3 J) FU z (nI 0) = J z' := by
  refine it1_up (Q := fun o => ∃ z', RW Z0 z' (fun _ => 0) ∧ o = J z') (N := 16) (fun k z => (∀ g, g ≠ 59 → z g = Z0 g) ∧ ∀ q, q < k → z 59 q = nI 0) ?_ ?_ (F := FU) (FU_lt (by omega)) ⟨hz, fun q hq => absurd hq (Nat.not_lt_zero _)⟩
  · rintro kk k z hk ⟨h1, h2⟩
    refine ⟨zset z 59 k (nI 0), ?_, fun g hg => by rw [zs_ne hg]; exact h1 g hg, fun q hq => ?_⟩
    · unfold lX4_isRing_3
      ((repeat (first | (with_reducible refine Eq.trans njE ?_; (try dsimp only)) | ((conv => lhs; arg 1; simp (maxSteps := 1000000) (disch := omega) only [nmE, li_0, li_1, li_2, li_3, li_4, li_5, li_6, li_7, li_8, li_9, li_10, li_11, li_12, li_13, li_14, li_15, li_16, li_17, li_18, li_19, li_20, li_21, li_22, li_23, li_24, li_25, li_26, li_27, li_28, li_29, li_30, li_31, li_32, li_33, li_34, li_35, li_36, li_37, li_38, li_39, li_40, li_41, li_42, li_43, li_44, li_45, li_48, li_57, li_59, li_61, li_63, li_64, li_65, li_72, li_90, li_97, li_99, li_101, li_102, li_103, li_104, li_105, li_108, li_109, li_111, li_114, li_115, li_116, li_117, li_118, li_120, li_121, li_122, li_216, li_240, li_255, li_256, li_380, li_400, li_480, li_511, li_512, li_729, li_1000, li_5184, li_10000, li_46656, li_65536, li_99999, li_1000000, ni_add, ni_mul, ni_sub, ni_ix, inb_t, ni_le_t, ni_le_f, ni_lt_t, ni_lt_f, ni_eq_t, ni_eq_f, ni_m1, ni_m1', ni_mn, ni_mn', Nat.add_sub_cancel, Nat.add_zero, zr_ne, zr_ni, zr_eq, gd_t, bd_s, if_true, if_false, Bool.not_true, Bool.not_false, ↓reduceIte, decide_false, decide_true]); (first | with_reducible refine Eq.trans gd_t ?_ | with_reducible refine Eq.trans bd_s ?_ | with_reducible refine Eq.trans bdp_s ?_ | with_reducible refine Eq.trans (if_pos trivial) ?_ | with_reducible refine Eq.trans (if_neg not_false) ?_ | with_reducible refine Eq.trans nmE ?_))));  (try simp (maxSteps := 1000000) (disch := omega) only [nmE, li_0, li_1, li_2, li_3, li_4, li_5, li_6, li_7, li_8, li_9, li_10, li_11, li_12, li_13, li_14, li_15, li_16, li_17, li_18, li_19, li_20, li_21, li_22, li_23, li_24, li_25, li_26, li_27, li_28, li_29, li_30, li_31, li_32, li_33, li_34, li_35, li_36, li_37, li_38, li_39, li_40, li_41, li_42, li_43, li_44, li_45, li_48, li_57, li_59, li_61, li_63, li_64, li_65, li_72, li_90, li_97, li_99, li_101, li_102, li_103, li_104, li_105, li_108, li_109, li_111, li_114, li_115, li_116, li_117, li_118, li_120, li_121, li_122, li_216, li_240, li_255, li_256, li_380, li_400, li_480, li_511, li_512, li_729, li_1000, li_5184, li_10000, li_46656, li_65536, li_99999, li_1000000, ni_add, ni_mul, ni_sub, ni_ix, inb_t, ni_le_t, ni_le_f, ni_lt_t, ni_lt_f, ni_eq_t, ni_eq_f, ni_m1, ni_m1', ni_mn, ni_mn', Nat.add_sub_cancel, Nat.add_zero, zr_ne, zr_ni, zr_eq, gd_t, bd_s, if_true, if_false, Bool.not_true, Bool.not_false, ↓reduceIte, decide_false, decide_true]))
    · by_cases e : q = k
      · subst e; rw [zr_eq]
      · rw [zr_ni e]; exact h2 q (by omega)
  · rintro kk z ⟨h1, h2⟩
    exact ⟨z, ⟨h1, h2, fun _ => (by decide : 0 < 4096)⟩, if_pos (by decide)⟩
theorem m_isRing {Z0 z : zT} {m set f fl : Nat} (hB : MB Z0) (h2 : Z0 2 0 = nI m) (hm : m ≤ 4) (hz : ∀ g, g ≠ 59 → z g = Z0 g) (hset : set < 16) (hf : f < 4) (hfs : set.testBit f = true) (hfl : fl < 3) :
    ∃ z', (∀ g, g ≠ 59 → z' g = Z0 g) ∧ (Clo (Ln Z0) m f fl set fl (2 ^ f) → fX4_isRing z (nI set) (nI f) (nI fl) = some (nI 1, z')) ∧ (¬ Clo (Ln Z0) m f fl set fl (2 ^ f) → fX4_isRing z (nI set) (nI f) (nI fl) = some (nI 0, z')) := by
  have hp := (p4_k ⟨f, hf⟩).1
  have hp : 2 ^ f < 16 := hp
  have ejs : js (1 : Int32) (nI f) = nI (2 ^ f) := js_2 (by omega)
  have ejb : js (1 : Int32) ((3 : Int32) * nI f + nI fl) = nI (2 ^ (3 * f + fl)) := by
    rw [show (3 : Int32) * nI f + nI fl = nI (3 * f + fl) from by rw [show (3 : Int32) * nI f = nI (3 * f) from ni_mul 3 f, ni_add]]
    exact js_2 (by omega)
  unfold fX4_isRing
  rw [njE, njE]
  obtain ⟨z1, c1, c2⟩ := m_clr (J := fun (Z24 : zT) =>
    gd (inb (js (1 : Int32) (nI f)) 16) <|
    nm (zset Z24 59 (ix (js (1 : Int32) (nI f))) (js (1 : Int32) (((3 : Int32) * nI f) + nI fl))) fun (Z_2 : zT) =>
    nj (fun (Z118 : zT) =>
      nj (it0 (lX4_isRing_121 (nI set) (nI f) (nI fl) Z118) FU) fun k121 =>
      k121 (0 : Int32)) fun j118 =>
    nj (it1 (lX4_isRing_42 (nI set) j118) FU) fun k42 =>
    k42 Z_2 (0 : Int32)) hz
  have c3 := RW_set (q := 2 ^ f) (b := 3 * f + fl) (by omega) c1
  rw [Nat.zero_or] at c3
  obtain ⟨r, z', d1, d2, d3⟩ := m_is42 (J := fun (Z118 : zT) => nj (it0 (lX4_isRing_121 (nI set) (nI f) (nI fl) Z118) FU) fun k121 => k121 (0 : Int32)) hB h2 hm c3 hset
  have hd : ∀ q b, (r q).testBit b = true ↔ (q = 2 ^ f ∧ b = 3 * f + fl) ∨ ∃ s, s < 16 ∧ s &&& cm set = 0 ∧ ∃ c, c < 12 ∧ (r s).testBit c = true ∧ edge (Ln Z0) m set s (c % 3) q b := by
    intro q b
    rw [d2]
    have hu : (upn (fun _ => 0) (2 ^ f) (2 ^ (3 * f + fl)) q).testBit b = true ↔ (q = 2 ^ f ∧ b = 3 * f + fl) := by
      unfold upn
      by_cases e : q = 2 ^ f
      · rw [if_pos e, Nat.testBit_two_pow, decide_eq_true_eq]
        exact ⟨fun h => ⟨e, h.symm⟩, fun h => h.2.symm⟩
      · rw [if_neg e, Nat.zero_testBit]
        exact ⟨fun h => absurd h (by decide), fun h => absurd h.1 e⟩
    rw [hu]
  have hiff : Clo (Ln Z0) m f fl set fl (2 ^ f) ↔ ∃ c, c < 12 ∧ (r set).testBit c = true ∧ Ln Z0 f fl (c % 3) = true := by
    constructor
    · rintro ⟨d, h⟩
      refine rows_f hm hset (fun s c q b h1 h2 h3 h4 h5 => (hd q b).mpr (Or.inr ⟨s, h1, h2, c, h3, h4, h5⟩)) d (2 ^ f) (3 * f + fl) hp (sub1_k ⟨set, hset⟩ ⟨f, hf⟩ hfs) (by omega) ((hd _ _).mpr (Or.inl ⟨rfl, rfl⟩)) ?_
      rw [show (3 * f + fl) % 3 = fl from by omega]
      exact h
    · rintro ⟨c, h1, h2, h3⟩
      refine rows_b hm hfl (r := r) (fun q b h => ?_) set c h2 (Clo_e.mpr (Or.inl ⟨rfl, h3⟩))
      rcases (hd q b).mp h with h | ⟨s, e1, _, c, e3, e4, e5⟩
      · exact Or.inl h
      · exact Or.inr ⟨s, e1, c, e3, e4, e5⟩
  refine ⟨z', d1.1, ?_⟩
  rw [hiff]
  have hlast : ((∃ c, c < 12 ∧ (r set).testBit c = true ∧ Ln Z0 f fl (c % 3) = true) → it0 (lX4_isRing_121 (nI set) (nI f) (nI fl) z') FU (nI 0) = some (nI 1, z')) ∧ ((¬ ∃ c, c < 12 ∧ (r set).testBit c = true ∧ Ln Z0 f fl (c % 3) = true) → it0 (lX4_isRing_121 (nI set) (nI f) (nI fl) z') FU (nI 0) = some (nI 0, z')) := by
    refine it0_ue (Q := fun o => ((∃ c, c < 12 ∧ (r set).testBit c = true ∧ Ln Z0 f fl (c % 3) = true) → o = some (nI 1, z')) ∧ ((¬ ∃ c, c < 12 ∧ (r set).testBit c = true ∧ Ln Z0 f fl (c % 3) = true) → o = some (nI 0, z'))) (N := 12) (fun k => ¬ ∃ c, c < k ∧ (r set).testBit c = true ∧ Ln Z0 f fl (c % 3) = true) ?_ ?_ (FU_lt (by omega)) (fun ⟨x, h, _⟩ => absurd h (Nat.not_lt_zero _))
    · intro kk k hk hno
      have hk1 : nI k + (1 : Int32) = nI (k + 1) := nI_1 k
      have t1 := tb_i (a := r set) (k := k) (by have := d1.2.2 set; omega) (by omega)
      have hnx : ((r set).testBit k = true → ¬ Ln Z0 f fl (k % 3) = true) → ¬ ∃ c, c < k + 1 ∧ (r set).testBit c = true ∧ Ln Z0 f fl (c % 3) = true := by
        rintro g ⟨c, e1, e2, e3⟩
        rcases Nat.lt_or_ge c k with c' | c'
        · exact hno ⟨c, c', e2, e3⟩
        · obtain rfl : c = k := by omega
          exact g e2 e3
      have ei : ((9 : Int32) * nI f + (3 : Int32) * nI fl) + jr (nI k) (3 : Int32) = nI (9 * f + 3 * fl + k % 3) := by
        rw [show (9 : Int32) * nI f = nI (9 * f) from ni_mul 9 f, show (3 : Int32) * nI fl = nI (3 * fl) from ni_mul 3 fl, show jr (nI k) (3 : Int32) = nI (k % 3) from ni_rem (d := 3) (by omega) (by omega) (by omega), ni_add, ni_add]
      have e58 : z' 58 = Z0 58 := d1.1 58 (by omega)
      unfold lX4_isRing_121
      rw [if_neg (show ¬ (12 : Int32) ≤ nI k from nI_ge (b := 12) hk (by omega)), gd_of (inb_t (n := 16) hset (by omega)), ni_ix (show set < 2147483648 by omega), d1.2.1 set hset, njE, nmE, hk1, ei]
      by_cases c1 : (r set).testBit k = true
      · rw [if_pos c1] at t1
        rw [if_pos (by show jsr (nI (r set)) (nI k) &&& nI 1 = (1 : Int32); rw [t1]; rfl), gd_of (inb_t (n := 36) (by omega) (by omega)), ni_ix (by omega), e58]
        rcases Ln_k hB f fl (k % 3) with ⟨l1, l2⟩ | ⟨l1, l2⟩
        · refine Or.inl ⟨fun _ => ?_, fun g => absurd ⟨k, hk, c1, l1⟩ g⟩
          rw [l2]
          exact if_pos rfl
        · refine Or.inr ⟨?_, hnx fun _ g => absurd (l1.symm.trans g) (by decide)⟩
          rw [l2]
          exact if_neg (by decide)
      · rw [if_neg c1] at t1
        refine Or.inr ⟨?_, hnx fun g => absurd g c1⟩
        exact if_neg (by show ¬ jsr (nI (r set)) (nI k) &&& nI 1 = (1 : Int32); rw [t1]; decide)
    · intro kk hno
      exact ⟨fun g => absurd g hno, fun _ => if_pos (by decide)⟩
  have hrun : it1 (lX4_isRing_3 (fun (Z24 : zT) =>
    gd (inb (js (1 : Int32) (nI f)) 16) <|
    nm (zset Z24 59 (ix (js (1 : Int32) (nI f))) (js (1 : Int32) (((3 : Int32) * nI f) + nI fl))) fun (Z_2 : zT) =>
    nj (fun (Z118 : zT) =>
      nj (it0 (lX4_isRing_121 (nI set) (nI f) (nI fl) Z118) FU) fun k121 =>
      k121 (0 : Int32)) fun j118 =>
    nj (it1 (lX4_isRing_42 (nI set) j118) FU) fun k42 =>
    k42 Z_2 (0 : Int32))) FU z (nI 0) = it0 (lX4_isRing_121 (nI set) (nI f) (nI fl) z') FU (nI 0) := by
    rw [c2, ejs, ejb, gd_of (inb_t (n := 16) hp (by omega)), ni_ix (by omega), nmE, njE, njE]
    refine Eq.trans d3 ?_
    rw [njE]
    rfl
  exact ⟨fun g => hrun.trans (hlast.1 g), fun g => hrun.trans (hlast.2 g)⟩
theorem m_canRing {Z0 z : zT} {m set : Nat} (hB : MB Z0) (h2 : Z0 2 0 = nI m) (hm : m ≤ 4) (hz : ∀ g, g ≠ 59 → z g = Z0 g) (hset : set < 16) (h0 : set ≠ 0) :
    ∃ z', (∀ g, g ≠ 59 → z' g = Z0 g) ∧ (crs Z0 m set → fX4_canRing z (nI set) = some (nI 1, z')) ∧ (¬ crs Z0 m set → fX4_canRing z (nI set) = some (nI 0, z')) := by
  obtain ⟨b1, b2, b3⟩ := lb_k ⟨set, hset⟩ h0
  have b1 : set.testBit (lb set) = true := b1
  have b2 : lb set < 4 := b2
  unfold fX4_canRing
  rw [njE, njE]
  have hfirst : ∀ J : Int32 → Option (Int32 × zT), it0 (lX4_canRing_2 (nI set) J) FU (nI 0) = J (nI (lb set)) := by
    intro J
    refine it0_ue (Q := fun o => o = J (nI (lb set))) (N := lb set) (fun k => True) ?_ ?_ (FU_lt (by omega)) trivial
    · intro kk k hk _
      have t1 := tb_i (a := set) (k := k) (by omega) (by omega)
      have hb : set.testBit k = false := b3 ⟨k, by omega⟩ hk
      rw [hb, if_neg (by decide)] at t1
      refine Or.inr ⟨?_, trivial⟩
      unfold lX4_canRing_2
      rw [if_pos (by show jsr (nI set) (nI k) &&& nI 1 = (0 : Int32); rw [t1]; rfl), nmE, show nI k + (1 : Int32) = nI (k + 1) from nI_1 k]
    · intro kk _
      have t1 := tb_i (a := set) (k := lb set) (by omega) (by omega)
      rw [b1, if_pos rfl] at t1
      unfold lX4_canRing_2
      rw [if_neg (by show ¬ jsr (nI set) (nI (lb set)) &&& nI 1 = (0 : Int32); rw [t1]; decide)]
  have hsec : ∃ z', (∀ g, g ≠ 59 → z' g = Z0 g) ∧ (crs Z0 m set → it1 (lX4_canRing_19 (nI set) (nI (lb set))) FU z (nI 0) = some (nI 1, z')) ∧ (¬ crs Z0 m set → it1 (lX4_canRing_19 (nI set) (nI (lb set))) FU z (nI 0) = some (nI 0, z')) := by
    refine it1_ue (Q := fun o => ∃ z' : zT, (∀ g, g ≠ 59 → z' g = Z0 g) ∧ (crs Z0 m set → o = some (nI 1, z')) ∧ (¬ crs Z0 m set → o = some (nI 0, z'))) (N := 3) (fun k (z : zT) => (∀ g, g ≠ 59 → z g = Z0 g) ∧ ¬ ∃ x, x < k ∧ Clo (Ln Z0) m (lb set) x set x (2 ^ lb set)) ?_ ?_ (FU_lt (by omega)) ⟨hz, fun ⟨x, h, _⟩ => absurd h (Nat.not_lt_zero _)⟩
    · rintro kk k z hk ⟨hz, hno⟩
      obtain ⟨z', g1, g2, g3⟩ := m_isRing hB h2 hm hz hset b2 b1 hk
      unfold lX4_canRing_19
      rw [if_neg (show ¬ (3 : Int32) ≤ nI k from nI_ge (b := 3) hk (by omega))]
      by_cases hx : Clo (Ln Z0) m (lb set) k set k (2 ^ lb set)
      · refine Or.inl ⟨z', g1, fun _ => ?_, fun g => absurd ⟨k, hk, hx⟩ g⟩
        rw [g2 hx, bdp_s, if_neg (by decide)]
        rfl
      · refine Or.inr ⟨z', ?_, g1, ?_⟩
        · rw [g3 hx, bdp_s, if_pos (by decide), nmE, show nI k + (1 : Int32) = nI (k + 1) from nI_1 k]
        · rintro ⟨x, h1, h2⟩
          rcases Nat.lt_or_ge x k with c | c
          · exact hno ⟨x, c, h2⟩
          · obtain rfl : x = k := by omega
            exact hx h2
    · rintro kk z ⟨hz, hno⟩
      exact ⟨z, hz, fun g => absurd g hno, fun _ => if_pos (by decide)⟩
  obtain ⟨z', g1, g2, g3⟩ := hsec
  refine ⟨z', g1, fun g => ?_, fun g => ?_⟩
  · refine Eq.trans (hfirst _) ?_
    rw [njE]
    exact g2 g
  · refine Eq.trans (hfirst _) ?_
    rw [njE]
    exact g3 g
theorem m_ring {Z0 : zT} {m : Nat} (hB : MB Z0) (h2 : Z0 2 0 = nI m) (hm : m ≤ 4) : ∃ r z', (∀ g, g ≠ 59 → z' g = Z0 g) ∧ it2 lX4_ring_9 FU Z0 (-1) (nI 1) = some (r, z') ∧ ((r = (-1 : Int32) ∧ ∀ j, j < 2 ^ m → ¬ gring Z0 m j) ∨ ∃ b, r = nI b ∧ fl (gring Z0 m) (2 ^ m) b) := by
  have hN2 : 2 ^ m ≤ 16 := Nat.pow_le_pow_right (n := 2) (by omega) (show m ≤ 4 by omega)
  have hN1 : 0 < 2 ^ m := Nat.two_pow_pos m
  refine it2_fr (Q := fun o => ∃ r, ∃ z' : zT, (∀ g, g ≠ 59 → z' g = Z0 g) ∧ o = some (r, z') ∧ ((r = (-1 : Int32) ∧ ∀ j, j < 2 ^ m → ¬ gring Z0 m j) ∨ ∃ b, r = nI b ∧ fl (gring Z0 m) (2 ^ m) b)) (N := 2 ^ m) (i0 := 1) (fun k (z : zT) (x : Int32) => (∀ g, g ≠ 59 → z g = Z0 g) ∧ ((x = (-1 : Int32) ∧ ∀ j, j < k → ¬ gring Z0 m j) ∨ ∃ b, x = nI b ∧ fl (gring Z0 m) k b)) ?_ ?_ (by omega) (FU_lt (by omega)) ⟨fun _ _ => rfl, Or.inl ⟨rfl, fun j hj g => absurd g.1 (by rw [show j = 0 from by omega]; decide)⟩⟩
  · rintro kk k z x hk1' hk ⟨hz, hx⟩
    have e2 : js (1 : Int32) (z 2 0) = nI (2 ^ m) := by rw [hz 2 (by omega), h2]; exact js_2 (by omega)
    have hlt : ¬ js (1 : Int32) (z 2 0) ≤ nI k := by rw [e2]; exact nI_ge hk (by omega)
    have hk1 : nI k + (1 : Int32) = nI (k + 1) := nI_1 k
    have hpk := pc_le k
    have o1 := m_ones (Z := z) (s := k) (by omega)
    have hnone : ∀ x, x = (-1 : Int32) ∧ (∀ j, j < k → ¬ gring Z0 m j) → ¬ gring Z0 m k → x = (-1 : Int32) ∧ (∀ j, j < k + 1 → ¬ gring Z0 m j) := by
      rintro x ⟨h1, h2⟩ h3
      refine ⟨h1, fun j hj => ?_⟩
      rcases Nat.lt_or_ge j k with c | c
      · exact h2 j c
      · obtain rfl : j = k := by omega
        exact h3
    have hu : ∀ x, lX4_ring_9 kk z x (nI k) = if nI (pc k) ≤ (1 : Int32) then kk z x (nI (k + 1)) else
        nj (bdp (fX4_canRing z (nI k)) fun (r_8 : Int32) (Z_9 : zT) => if r_8 = 0 then kk Z_9 x (nI (k + 1)) else kk Z_9 (nI k) (nI (k + 1))) fun j46 =>
        if x = (-1 : Int32) then j46 else bd (some (nI (pc k))) fun (r_13 : Int32) => bd (fX4_ones z x) fun (r_15 : Int32) => if r_15 ≤ r_13 then kk z x (nI (k + 1)) else j46 := by
      intro x
      unfold lX4_ring_9
      rw [if_neg hlt, o1, bd_s, njE]
      dsimp only
      simp only [nmE, hk1, o1]
    by_cases c1 : 2 ≤ pc k
    · have hk0 : k ≠ 0 := by omega
      obtain ⟨z', g1, g2, g3⟩ := m_canRing hB h2 hm hz (show k < 16 by omega) hk0
      have hu2 : ∀ x, lX4_ring_9 kk z x (nI k) = nj (bdp (fX4_canRing z (nI k)) fun (r_8 : Int32) (Z_9 : zT) => if r_8 = 0 then kk Z_9 x (nI (k + 1)) else kk Z_9 (nI k) (nI (k + 1))) fun j46 =>
        if x = (-1 : Int32) then j46 else bd (some (nI (pc k))) fun (r_13 : Int32) => bd (fX4_ones z x) fun (r_15 : Int32) => if r_15 ≤ r_13 then kk z x (nI (k + 1)) else j46 := fun x => by
        rw [hu x, if_neg (show ¬ nI (pc k) ≤ (1 : Int32) from nI_ge (b := pc k) (a := 1) (by omega) (by omega))]
      by_cases c2 : crs Z0 m k
      · rw [g2 c2] at hu2
        rcases hx with hx | ⟨b, rfl, hx⟩
        · refine ⟨z', nI k, ?_, g1, Or.inr ⟨k, rfl, fl_first hx.2 ⟨c1, c2⟩⟩⟩
          rw [hu2, njE, if_pos hx.1, bdp_s, if_neg (by decide)]
        · have hb : b < 4096 := by have := hx.1; omega
          have hpb := pc_le b
          have o2 := m_ones (Z := z) (s := b) hb
          by_cases c3 : pc k < pc b
          · refine ⟨z', nI k, ?_, g1, Or.inr ⟨k, rfl, fl_new hx ⟨c1, c2⟩ c3⟩⟩
            rw [hu2, njE, if_neg (show ¬ nI b = (-1 : Int32) from fun e => by rw [ni_m1 (by omega)] at e; exact e), bd_s, o2, bd_s, if_neg (nI_ge c3 (by omega)), bdp_s, if_neg (by decide)]
          · refine ⟨z, nI b, ?_, hz, Or.inr ⟨b, rfl, fl_keep hx fun _ => by omega⟩⟩
            rw [hu2, njE, if_neg (show ¬ nI b = (-1 : Int32) from fun e => by rw [ni_m1 (by omega)] at e; exact e), bd_s, o2, bd_s, if_pos (nI_le (by omega) (by omega))]
      · rw [g3 c2] at hu2
        rcases hx with hx | ⟨b, rfl, hx⟩
        · refine ⟨z', x, ?_, g1, Or.inl (hnone x hx fun g => c2 g.2)⟩
          rw [hu2, njE, if_pos hx.1, bdp_s, if_pos (by decide)]
        · have hb : b < 4096 := by have := hx.1; omega
          have hpb := pc_le b
          have o2 := m_ones (Z := z) (s := b) hb
          by_cases c3 : pc b ≤ pc k
          · refine ⟨z, nI b, ?_, hz, Or.inr ⟨b, rfl, fl_keep hx fun g => absurd g.2 c2⟩⟩
            rw [hu2, njE, if_neg (show ¬ nI b = (-1 : Int32) from fun e => by rw [ni_m1 (by omega)] at e; exact e), bd_s, o2, bd_s, if_pos (nI_le c3 (by omega))]
          · refine ⟨z', nI b, ?_, g1, Or.inr ⟨b, rfl, fl_keep hx fun g => absurd g.2 c2⟩⟩
            rw [hu2, njE, if_neg (show ¬ nI b = (-1 : Int32) from fun e => by rw [ni_m1 (by omega)] at e; exact e), bd_s, o2, bd_s, if_neg (nI_ge (by omega) (by omega)), bdp_s, if_pos (by decide)]
    · refine ⟨z, x, ?_, hz, ?_⟩
      · rw [hu x, if_pos (show nI (pc k) ≤ (1 : Int32) from nI_le (b := 1) (by omega) (by omega))]
      · rcases hx with hx | ⟨b, rfl, hx⟩
        · exact Or.inl (hnone x hx fun g => c1 g.1)
        · exact Or.inr ⟨b, rfl, fl_keep hx fun g => absurd g.1 c1⟩
  · rintro kk z x ⟨hz, hx⟩
    refine ⟨x, z, hz, ?_, hx⟩
    unfold lX4_ring_9
    rw [if_pos]
    rw [hz 2 (by omega), h2, show js (1 : Int32) (nI m) = nI (2 ^ m) from js_2 (by omega)]
    exact nI_le (Nat.le_refl _) (by omega)
theorem fl_one {g : Nat → Prop} {k b b' : Nat} (h : fl g k b) (h' : fl g k b') : b = b' := by
  obtain ⟨h1, h2, h3⟩ := h
  obtain ⟨k1, k2, k3⟩ := h'
  have q1 := h3 b' k1 k2
  have q2 := k3 b h1 h2
  have q3 : ¬ b < b' := fun c => by have := q2.2 c; omega
  have q4 : ¬ b' < b := fun c => by have := q1.2 c; omega
  omega
theorem op_ring {a v w n m nn nl nw : Nat} {S : sT} {P : pT} {Y I Z : zT} (hR0 : Rel a v w S P Y I n Z m nn nl nw) : OpR a v w S P Y I n (fX0_ring S P (enc a Y I) a) (fX4_ring Z) := by
  have hR := R_z (f := 0) (i := 0) (x := (0 : Int32)) rfl hR0
  unfold fX4_ring
  generalize zset Z 0 0 (0 : Int32) = Z1 at hR ⊢
  clear hR0
  obtain ⟨⟨hv, hw, hA, h4, h5, hL, hM⟩, hn, hX, hN, hB, hC, hP, hK⟩ := id hR
  have hm4 : m ≤ 4 := hN.2.1.1
  have hn20 : nn ≤ 20 := hN.2.1.2.1
  have hl99 : nl ≤ 99 := hN.2.1.2.2.1
  have hw9 : nw ≤ 9 := hN.2.1.2.2.2
  obtain ⟨r, e1, e2⟩ := e_ring hR
  obtain ⟨r', z', g1, g2, g3⟩ := m_ring hB (VN_m hN) hm4
  have hrr : r = r' := by
    rcases e2 with ⟨rfl, e2⟩ | ⟨b, rfl, e2⟩
    · rcases g3 with ⟨rfl, g3⟩ | ⟨b, rfl, g3⟩
      · rfl
      · exact absurd g3.2.1 (e2 b g3.1)
    · rcases g3 with ⟨rfl, g3⟩ | ⟨b', rfl, g3⟩
      · exact absurd e2.2.1 (g3 b e2.1)
      · rw [fl_one e2 g3]
  subst hrr
  refine ⟨r, z', m, nn, nl, nw, e1, ?_, R_zz (fun g hg => g1 g (by rintro rfl; exact absurd hg (by decide))) hR⟩
  rw [nmE, njE]
  exact g2
