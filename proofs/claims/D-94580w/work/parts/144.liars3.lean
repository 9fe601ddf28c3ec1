/-! LAYER 2: liars: the least set on both sides -/
theorem can_t {S : sT} {M : zT} {p q : Nat} {X Y : Nat → Nat} {set : Nat} {A B : Option (Int32 × sT × pT × zT × Nat)} (hkp : isk S p 20 = true) (hnp : (S p).2 = 10) (hkq : isk S q 20 = true) (hnq : (S q).2 = 10) (hp : ∀ f, f < 10 → M p f = nI (X f)) (hq : ∀ f, f < 10 → M q f = nI (Y f)) (hX : ∀ f, X f < 4096) (hY : ∀ f, Y f < 4096) (hs : set < 4294967296) (h : ∀ f, f < 10 → X f &&& cm set = 0 ∨ Y f &&& cm set = 0) :
    (nj (fun (x6_193 : Int32) => if x6_193 = 0 then A else B) fun j193 => nj (it1 (lX0_liars_144 p q S M (nI set) j193) FU) fun k144 => k144 (1 : Int32) (0 : Int32)) = B := by
  rw [njE, njE]
  refine Eq.trans ((e_can (so' := 0) (nt' := 0) hkp hnp hkq hnq hp hq hX hY hs).1 h) ?_
  exact if_neg (by decide)
theorem can_f {S : sT} {M : zT} {p q : Nat} {X Y : Nat → Nat} {set : Nat} {A B : Option (Int32 × sT × pT × zT × Nat)} (hkp : isk S p 20 = true) (hnp : (S p).2 = 10) (hkq : isk S q 20 = true) (hnq : (S q).2 = 10) (hp : ∀ f, f < 10 → M p f = nI (X f)) (hq : ∀ f, f < 10 → M q f = nI (Y f)) (hX : ∀ f, X f < 4096) (hY : ∀ f, Y f < 4096) (hs : set < 4294967296) (h : ¬ ∀ f, f < 10 → X f &&& cm set = 0 ∨ Y f &&& cm set = 0) :
    (nj (fun (x6_193 : Int32) => if x6_193 = 0 then A else B) fun j193 => nj (it1 (lX0_liars_144 p q S M (nI set) j193) FU) fun k144 => k144 (1 : Int32) (0 : Int32)) = A := by
  rw [njE, njE]
  refine Eq.trans ((e_can (so' := 0) (nt' := 0) hkp hnp hkq hnq hp hq hX hY hs).2 h) ?_
  exact if_pos (by decide)
/-- the first least of what is good, below k -/
def fl (g : Nat → Prop) (k b : Nat) : Prop := b < k ∧ g b ∧ ∀ j, j < k → g j → pc b ≤ pc j ∧ (j < b → pc b < pc j)
theorem fl_keep {g : Nat → Prop} {k b : Nat} (h : fl g k b) (hk : g k → pc b ≤ pc k) : fl g (k + 1) b := by
  obtain ⟨h1, h2, h3⟩ := h
  refine ⟨by omega, h2, fun j hj hg => ?_⟩
  rcases Nat.lt_or_ge j k with c | c
  · exact h3 j c hg
  · obtain rfl : j = k := by omega
    exact ⟨hk hg, fun c => by omega⟩
theorem fl_new {g : Nat → Prop} {k b : Nat} (h : fl g k b) (hg : g k) (hk : pc k < pc b) : fl g (k + 1) k := by
  obtain ⟨h1, h2, h3⟩ := h
  refine ⟨by omega, hg, fun j hj hgj => ?_⟩
  rcases Nat.lt_or_ge j k with c | c
  · have := (h3 j c hgj).1
    exact ⟨by omega, fun _ => by omega⟩
  · obtain rfl : j = k := by omega
    exact ⟨Nat.le_refl _, fun c => by omega⟩
theorem fl_first {g : Nat → Prop} {k : Nat} (h : ∀ j, j < k → ¬ g j) (hg : g k) : fl g (k + 1) k := by
  refine ⟨by omega, hg, fun j hj hgj => ?_⟩
  rcases Nat.lt_or_ge j k with c | c
  · exact absurd hgj (h j c)
  · obtain rfl : j = k := by omega
    exact ⟨Nat.le_refl _, fun c => by omega⟩
theorem e_sets {S : sT} {P : pT} {M : zT} {p q n' y : Nat} {X Y : Nat → Nat} (hkp : isk S p 20 = true) (hnp : (S p).2 = 10) (hkq : isk S q 20 = true) (hnq : (S q).2 = 10) (hp : ∀ f, f < 10 → M p f = nI (X f)) (hq : ∀ f, f < 10 → M q f = nI (Y f)) (hX : ∀ f, X f < 4096) (hY : ∀ f, Y f < 4096) (hy : y < 4096)
    (hg : y &&& cm y = 0 ∧ ∀ f, f < 10 → X f &&& cm y = 0 ∨ Y f &&& cm y = 0) : ∃ b, fl (fun set => set &&& cm y = 0 ∧ ∀ f, f < 10 → X f &&& cm set = 0 ∨ Y f &&& cm set = 0) (y + 1) b ∧ it1 (lX0_liars_101 p q S P n' M (nI y)) FU (-1) (nI 0) = some (nI b, S, P, M, n') := by
  refine it1_up (Q := fun o => ∃ b, fl (fun set => set &&& cm y = 0 ∧ ∀ f, f < 10 → X f &&& cm set = 0 ∨ Y f &&& cm set = 0) (y + 1) b ∧ o = some (nI b, S, P, M, n')) (N := y + 1) (fun k x => (x = (-1 : Int32) ∧ ∀ j, j < k → ¬ (j &&& cm y = 0 ∧ ∀ f, f < 10 → X f &&& cm j = 0 ∨ Y f &&& cm j = 0)) ∨ ∃ b, x = nI b ∧ fl (fun set => set &&& cm y = 0 ∧ ∀ f, f < 10 → X f &&& cm set = 0 ∨ Y f &&& cm set = 0) k b) ?_ ?_ (F := FU) (FU_lt (by omega)) (Or.inl ⟨rfl, fun f hf => absurd hf (Nat.not_lt_zero _)⟩)
  · intro kk k x hk hx
    have hk32 : k < 4294967296 := by omega
    have ec : nI k &&& (nI y ^^^ (-1 : Int32)) = nI (k &&& cm y) := by rw [ni_cm (show y < 4294967296 by omega), ni_and]
    have hb1 : k &&& cm y < 4096 := Nat.lt_of_le_of_lt Nat.and_le_left (by omega)
    have hk1 : nI k + (1 : Int32) = nI (k + 1) := nI_1 k
    have hstep : ∀ x, (¬ k &&& cm y = 0 → lX0_liars_101 p q S P n' M (nI y) kk x (nI k) = kk x (nI (k + 1))) ∧ (k &&& cm y = 0 → x = (-1 : Int32) → ((∀ f, f < 10 → X f &&& cm k = 0 ∨ Y f &&& cm k = 0) → lX0_liars_101 p q S P n' M (nI y) kk x (nI k) = kk (nI k) (nI (k + 1))) ∧ ((¬ ∀ f, f < 10 → X f &&& cm k = 0 ∨ Y f &&& cm k = 0) → lX0_liars_101 p q S P n' M (nI y) kk x (nI k) = kk x (nI (k + 1)))) ∧
        (k &&& cm y = 0 → ∀ b, x = nI b → b < 4096 → (pc k < pc b → (∀ f, f < 10 → X f &&& cm k = 0 ∨ Y f &&& cm k = 0) → lX0_liars_101 p q S P n' M (nI y) kk x (nI k) = kk (nI k) (nI (k + 1))) ∧ (pc k < pc b → (¬ ∀ f, f < 10 → X f &&& cm k = 0 ∨ Y f &&& cm k = 0) → lX0_liars_101 p q S P n' M (nI y) kk x (nI k) = kk x (nI (k + 1))) ∧ (¬ pc k < pc b → lX0_liars_101 p q S P n' M (nI y) kk x (nI k) = kk x (nI (k + 1)))) := by
      intro x
      have hlt : ¬ nI y < nI k := nI_nlt (by omega) (by omega)
      have hpk := pc_le k
      unfold lX0_liars_101
      rw [if_neg hlt, njE, ec]
      dsimp only
      simp only [nmE, hk1]
      refine ⟨fun h => ?_, fun h hx => ?_, fun h b hx hb => ?_⟩
      · rw [if_neg (show ¬ nI (k &&& cm y) = (0 : Int32) from ni_ne (q := 0) h (by omega) (by omega))]
      · rw [h, if_pos (show nI 0 = (0 : Int32) from rfl), njE, if_pos hx]
        exact ⟨fun hgd => can_t hkp hnp hkq hnq hp hq hX hY hk32 hgd, fun hgd => can_f hkp hnp hkq hnq hp hq hX hY hk32 hgd⟩
      · have hpb := pc_le b
        rw [h, if_pos (show nI 0 = (0 : Int32) from rfl), njE, hx, if_neg (show ¬ nI b = (-1 : Int32) from fun e => by rw [ni_m1 (by omega)] at e; exact e), e_bc (show k < 4096 by omega), bd_s, e_bc hb, bd_s]
        refine ⟨fun hc hgd => ?_, fun hc hgd => ?_, fun hc => ?_⟩
        · rw [if_pos (nI_lt hc (by omega))]
          exact can_t hkp hnp hkq hnq hp hq hX hY hk32 hgd
        · rw [if_pos (nI_lt hc (by omega))]
          exact can_f hkp hnp hkq hnq hp hq hX hY hk32 hgd
        · rw [if_neg (nI_nlt (by omega) (by omega))]
    by_cases c1 : k &&& cm y = 0
    · by_cases c2 : ∀ f, f < 10 → X f &&& cm k = 0 ∨ Y f &&& cm k = 0
      · rcases hx with ⟨rfl, hx⟩ | ⟨b, rfl, hx⟩
        · exact ⟨nI k, ((hstep _).2.1 c1 rfl).1 c2, Or.inr ⟨k, rfl, fl_first hx ⟨c1, c2⟩⟩⟩
        · have hb : b < 4096 := by have := hx.1; omega
          by_cases c3 : pc k < pc b
          · exact ⟨nI k, ((hstep _).2.2 c1 b rfl hb).1 c3 c2, Or.inr ⟨k, rfl, fl_new hx ⟨c1, c2⟩ c3⟩⟩
          · exact ⟨nI b, ((hstep _).2.2 c1 b rfl hb).2.2 c3, Or.inr ⟨b, rfl, fl_keep hx fun _ => by omega⟩⟩
      · rcases hx with ⟨rfl, hx⟩ | ⟨b, rfl, hx⟩
        · refine ⟨-1, ((hstep _).2.1 c1 rfl).2 c2, Or.inl ⟨rfl, fun j hj hgj => ?_⟩⟩
          rcases Nat.lt_or_ge j k with c | c
          · exact hx j c hgj
          · obtain rfl : j = k := by omega
            exact c2 hgj.2
        · have hb : b < 4096 := by have := hx.1; omega
          by_cases c3 : pc k < pc b
          · exact ⟨nI b, ((hstep _).2.2 c1 b rfl hb).2.1 c3 c2, Or.inr ⟨b, rfl, fl_keep hx fun hgk => absurd hgk.2 c2⟩⟩
          · exact ⟨nI b, ((hstep _).2.2 c1 b rfl hb).2.2 c3, Or.inr ⟨b, rfl, fl_keep hx fun _ => by omega⟩⟩
    · rcases hx with ⟨rfl, hx⟩ | ⟨b, rfl, hx⟩
      · refine ⟨-1, (hstep _).1 c1, Or.inl ⟨rfl, fun j hj hgj => ?_⟩⟩
        rcases Nat.lt_or_ge j k with c | c
        · exact hx j c hgj
        · obtain rfl : j = k := by omega
          exact c1 hgj.1
      · exact ⟨nI b, (hstep _).1 c1, Or.inr ⟨b, rfl, fl_keep hx fun hgk => absurd hgk.1 c1⟩⟩
  · rintro kk x hx
    have hend : lX0_liars_101 p q S P n' M (nI y) kk x (nI (y + 1)) = some (x, S, P, M, n') := if_pos (nI_lt (by omega) (by omega))
    rcases hx with ⟨rfl, hx⟩ | ⟨b, rfl, hx⟩
    · exact absurd hg (hx y (by omega))
    · exact ⟨b, hx, hend⟩
/-- OneEyeModel's look at a set -/
def so2 (Z : zT) (set : Nat) : Nat → Nat := orf (fun j => !(set.testBit (wh Z j)) && sd Z j) (fc Z)
def nt2 (Z : zT) (set : Nat) : Nat → Nat := orf (fun j => !(set.testBit (wh Z j)) && !(sd Z j)) (fc Z)
theorem gdl_m {Z : zT} {nl set : Nat} (hB : MB Z) : gdl Z nl set ↔ so2 Z set nl &&& nt2 Z set nl = 0 := by
  unfold so2 nt2
  rw [and0 (w := 10) (orf_lt nl (fun j _ => (fc_k hB j).1))]
  constructor
  · intro h b _ hb
    obtain ⟨i, hi, hc, rfl⟩ := (orf_tb nl).mp hb
    rw [Bool.and_eq_true, Bool.not_eq_true'] at hc
    cases hn : (orf (fun j => !(set.testBit (wh Z j)) && !(sd Z j)) (fc Z) nl).testBit (fc Z i)
    · rfl
    · obtain ⟨j, hj, hd, he⟩ := (orf_tb nl).mp hn
      rw [Bool.and_eq_true, Bool.not_eq_true', Bool.not_eq_true'] at hd
      rcases h i j hi hj he.symm hc.2 hd.2 with g | g
      · rw [hc.1] at g; cases g
      · rw [hd.1] at g; cases g
  · intro h i j hi hj h1 h2 h3
    refine Classical.byContradiction fun c => ?_
    rw [not_or, Bool.not_eq_true, Bool.not_eq_true] at c
    have e1 : (orf (fun j => !(set.testBit (wh Z j)) && sd Z j) (fc Z) nl).testBit (fc Z i) = true := (orf_tb nl).mpr ⟨i, hi, by rw [c.1, h2]; rfl, rfl⟩
    have e2 : (orf (fun j => !(set.testBit (wh Z j)) && !(sd Z j)) (fc Z) nl).testBit (fc Z i) = true := (orf_tb nl).mpr ⟨j, hj, by rw [c.2, h3]; rfl, h1.symm⟩
    rw [h _ (fc_k hB i).1 e1] at e2
    cases e2
theorem m_tog {Z : zT} {nl set : Nat} (hB : MB Z) (h22 : Z 22 0 = nI nl) (hl : nl ≤ 99) (hs : set < 4096) : (gdl Z nl set → fX4_goTogether Z (nI set) = some (nI 1)) ∧ (¬ gdl Z nl set → fX4_goTogether Z (nI set) = some (nI 0)) := by
  have h : fX4_goTogether Z (nI set) = if nI (so2 Z set nl &&& nt2 Z set nl) = nI 0 then some (nI 1) else some (nI 0) := by
    unfold fX4_goTogether
    rw [njE, njE]
    refine it2_up (Q := fun o => o = if nI (so2 Z set nl &&& nt2 Z set nl) = nI 0 then some (nI 1) else some (nI 0)) (N := nl) (fun k u x => u = nI (so2 Z set k) ∧ x = nI (nt2 Z set k)) ?_ ?_ (F := FU) (FU_lt (by omega)) ⟨rfl, rfl⟩
    · rintro kk k _ _ hk ⟨rfl, rfl⟩
      obtain ⟨w1, w2⟩ := wh_k hB k
      obtain ⟨f1, f2⟩ := fc_k hB k
      have ht := tb_i (a := set) (k := wh Z k) (by omega) (by omega)
      refine ⟨nI (so2 Z set (k + 1)), nI (nt2 Z set (k + 1)), ?_, rfl, rfl⟩
      show _ = kk (nI (if (!(set.testBit (wh Z k)) && sd Z k) = true then so2 Z set k ||| 2 ^ fc Z k else so2 Z set k)) (nI (if (!(set.testBit (wh Z k)) && !(sd Z k)) = true then nt2 Z set k ||| 2 ^ fc Z k else nt2 Z set k)) (nI (k + 1))
      unfold lX4_goTogether_7
      cases hb : set.testBit (wh Z k)
      · rw [hb, if_neg (by decide)] at ht
        rcases sd_k hB k with ⟨s1, s2⟩ | ⟨s1, s2⟩
        · rw [s1, if_pos (show (!false && true) = true from rfl), if_neg (show ¬ (!false && !true) = true from by decide)]
          ((repeat (first | (with_reducible refine Eq.trans njE ?_; (try dsimp only)) | ((conv => lhs; arg 1; simp (maxSteps := 1000000) (disch := omega) only [h22, w2, f2, s2, ht, js_2, ni_or, li_0, li_1, li_2, li_3, li_4, li_5, li_6, li_7, li_8, li_9, li_10, li_11, li_12, li_13, li_14, li_15, li_16, li_17, li_18, li_19, li_20, li_21, li_22, li_23, li_24, li_25, li_26, li_27, li_28, li_29, li_30, li_31, li_32, li_33, li_34, li_35, li_36, li_37, li_38, li_39, li_40, li_41, li_42, li_43, li_44, li_45, li_48, li_57, li_59, li_61, li_63, li_64, li_65, li_72, li_90, li_97, li_99, li_101, li_102, li_103, li_104, li_105, li_108, li_109, li_111, li_114, li_115, li_116, li_117, li_118, li_120, li_121, li_122, li_216, li_240, li_255, li_256, li_380, li_400, li_480, li_511, li_512, li_729, li_1000, li_5184, li_10000, li_46656, li_65536, li_99999, li_1000000, ni_add, ni_mul, ni_sub, ni_ix, inb_t, ni_le_t, ni_le_f, ni_lt_t, ni_lt_f, ni_eq_t, ni_eq_f, ni_m1, ni_m1', ni_mn, ni_mn', Nat.add_sub_cancel, Nat.add_zero, zr_ne, zr_ni, zr_eq, gd_t, bd_s, if_true, if_false, Bool.not_true, Bool.not_false, ↓reduceIte, decide_false, decide_true]); (first | with_reducible refine Eq.trans gd_t ?_ | with_reducible refine Eq.trans bd_s ?_ | with_reducible refine Eq.trans bdp_s ?_ | with_reducible refine Eq.trans (if_pos trivial) ?_ | with_reducible refine Eq.trans (if_neg not_false) ?_ | with_reducible refine Eq.trans nmE ?_))));  (try simp (maxSteps := 1000000) (disch := omega) only [h22, w2, f2, s2, ht, js_2, ni_or, li_0, li_1, li_2, li_3, li_4, li_5, li_6, li_7, li_8, li_9, li_10, li_11, li_12, li_13, li_14, li_15, li_16, li_17, li_18, li_19, li_20, li_21, li_22, li_23, li_24, li_25, li_26, li_27, li_28, li_29, li_30, li_31, li_32, li_33, li_34, li_35, li_36, li_37, li_38, li_39, li_40, li_41, li_42, li_43, li_44, li_45, li_48, li_57, li_59, li_61, li_63, li_64, li_65, li_72, li_90, li_97, li_99, li_101, li_102, li_103, li_104, li_105, li_108, li_109, li_111, li_114, li_115, li_116, li_117, li_118, li_120, li_121, li_122, li_216, li_240, li_255, li_256, li_380, li_400, li_480, li_511, li_512, li_729, li_1000, li_5184, li_10000, li_46656, li_65536, li_99999, li_1000000, ni_add, ni_mul, ni_sub, ni_ix, inb_t, ni_le_t, ni_le_f, ni_lt_t, ni_lt_f, ni_eq_t, ni_eq_f, ni_m1, ni_m1', ni_mn, ni_mn', Nat.add_sub_cancel, Nat.add_zero, zr_ne, zr_ni, zr_eq, gd_t, bd_s, if_true, if_false, Bool.not_true, Bool.not_false, ↓reduceIte, decide_false, decide_true]))
        · rw [s1, if_neg (show ¬ (!false && false) = true from by decide), if_pos (show (!false && !false) = true from rfl)]
          ((repeat (first | (with_reducible refine Eq.trans njE ?_; (try dsimp only)) | ((conv => lhs; arg 1; simp (maxSteps := 1000000) (disch := omega) only [h22, w2, f2, s2, ht, js_2, ni_or, li_0, li_1, li_2, li_3, li_4, li_5, li_6, li_7, li_8, li_9, li_10, li_11, li_12, li_13, li_14, li_15, li_16, li_17, li_18, li_19, li_20, li_21, li_22, li_23, li_24, li_25, li_26, li_27, li_28, li_29, li_30, li_31, li_32, li_33, li_34, li_35, li_36, li_37, li_38, li_39, li_40, li_41, li_42, li_43, li_44, li_45, li_48, li_57, li_59, li_61, li_63, li_64, li_65, li_72, li_90, li_97, li_99, li_101, li_102, li_103, li_104, li_105, li_108, li_109, li_111, li_114, li_115, li_116, li_117, li_118, li_120, li_121, li_122, li_216, li_240, li_255, li_256, li_380, li_400, li_480, li_511, li_512, li_729, li_1000, li_5184, li_10000, li_46656, li_65536, li_99999, li_1000000, ni_add, ni_mul, ni_sub, ni_ix, inb_t, ni_le_t, ni_le_f, ni_lt_t, ni_lt_f, ni_eq_t, ni_eq_f, ni_m1, ni_m1', ni_mn, ni_mn', Nat.add_sub_cancel, Nat.add_zero, zr_ne, zr_ni, zr_eq, gd_t, bd_s, if_true, if_false, Bool.not_true, Bool.not_false, ↓reduceIte, decide_false, decide_true]); (first | with_reducible refine Eq.trans gd_t ?_ | with_reducible refine Eq.trans bd_s ?_ | with_reducible refine Eq.trans bdp_s ?_ | with_reducible refine Eq.trans (if_pos trivial) ?_ | with_reducible refine Eq.trans (if_neg not_false) ?_ | with_reducible refine Eq.trans nmE ?_))));  (try simp (maxSteps := 1000000) (disch := omega) only [h22, w2, f2, s2, ht, js_2, ni_or, li_0, li_1, li_2, li_3, li_4, li_5, li_6, li_7, li_8, li_9, li_10, li_11, li_12, li_13, li_14, li_15, li_16, li_17, li_18, li_19, li_20, li_21, li_22, li_23, li_24, li_25, li_26, li_27, li_28, li_29, li_30, li_31, li_32, li_33, li_34, li_35, li_36, li_37, li_38, li_39, li_40, li_41, li_42, li_43, li_44, li_45, li_48, li_57, li_59, li_61, li_63, li_64, li_65, li_72, li_90, li_97, li_99, li_101, li_102, li_103, li_104, li_105, li_108, li_109, li_111, li_114, li_115, li_116, li_117, li_118, li_120, li_121, li_122, li_216, li_240, li_255, li_256, li_380, li_400, li_480, li_511, li_512, li_729, li_1000, li_5184, li_10000, li_46656, li_65536, li_99999, li_1000000, ni_add, ni_mul, ni_sub, ni_ix, inb_t, ni_le_t, ni_le_f, ni_lt_t, ni_lt_f, ni_eq_t, ni_eq_f, ni_m1, ni_m1', ni_mn, ni_mn', Nat.add_sub_cancel, Nat.add_zero, zr_ne, zr_ni, zr_eq, gd_t, bd_s, if_true, if_false, Bool.not_true, Bool.not_false, ↓reduceIte, decide_false, decide_true]))
      · rw [hb, if_pos rfl] at ht
        rw [if_neg (show ¬ (!true && sd Z k) = true from by cases sd Z k <;> decide), if_neg (show ¬ (!true && !(sd Z k)) = true from by cases sd Z k <;> decide)]
        ((repeat (first | (with_reducible refine Eq.trans njE ?_; (try dsimp only)) | ((conv => lhs; arg 1; simp (maxSteps := 1000000) (disch := omega) only [h22, w2, ht, li_0, li_1, li_2, li_3, li_4, li_5, li_6, li_7, li_8, li_9, li_10, li_11, li_12, li_13, li_14, li_15, li_16, li_17, li_18, li_19, li_20, li_21, li_22, li_23, li_24, li_25, li_26, li_27, li_28, li_29, li_30, li_31, li_32, li_33, li_34, li_35, li_36, li_37, li_38, li_39, li_40, li_41, li_42, li_43, li_44, li_45, li_48, li_57, li_59, li_61, li_63, li_64, li_65, li_72, li_90, li_97, li_99, li_101, li_102, li_103, li_104, li_105, li_108, li_109, li_111, li_114, li_115, li_116, li_117, li_118, li_120, li_121, li_122, li_216, li_240, li_255, li_256, li_380, li_400, li_480, li_511, li_512, li_729, li_1000, li_5184, li_10000, li_46656, li_65536, li_99999, li_1000000, ni_add, ni_mul, ni_sub, ni_ix, inb_t, ni_le_t, ni_le_f, ni_lt_t, ni_lt_f, ni_eq_t, ni_eq_f, ni_m1, ni_m1', ni_mn, ni_mn', Nat.add_sub_cancel, Nat.add_zero, zr_ne, zr_ni, zr_eq, gd_t, bd_s, if_true, if_false, Bool.not_true, Bool.not_false, ↓reduceIte, decide_false, decide_true]); (first | with_reducible refine Eq.trans gd_t ?_ | with_reducible refine Eq.trans bd_s ?_ | with_reducible refine Eq.trans bdp_s ?_ | with_reducible refine Eq.trans (if_pos trivial) ?_ | with_reducible refine Eq.trans (if_neg not_false) ?_ | with_reducible refine Eq.trans nmE ?_))));  (try simp (maxSteps := 1000000) (disch := omega) only [h22, w2, ht, li_0, li_1, li_2, li_3, li_4, li_5, li_6, li_7, li_8, li_9, li_10, li_11, li_12, li_13, li_14, li_15, li_16, li_17, li_18, li_19, li_20, li_21, li_22, li_23, li_24, li_25, li_26, li_27, li_28, li_29, li_30, li_31, li_32, li_33, li_34, li_35, li_36, li_37, li_38, li_39, li_40, li_41, li_42, li_43, li_44, li_45, li_48, li_57, li_59, li_61, li_63, li_64, li_65, li_72, li_90, li_97, li_99, li_101, li_102, li_103, li_104, li_105, li_108, li_109, li_111, li_114, li_115, li_116, li_117, li_118, li_120, li_121, li_122, li_216, li_240, li_255, li_256, li_380, li_400, li_480, li_511, li_512, li_729, li_1000, li_5184, li_10000, li_46656, li_65536, li_99999, li_1000000, ni_add, ni_mul, ni_sub, ni_ix, inb_t, ni_le_t, ni_le_f, ni_lt_t, ni_lt_f, ni_eq_t, ni_eq_f, ni_m1, ni_m1', ni_mn, ni_mn', Nat.add_sub_cancel, Nat.add_zero, zr_ne, zr_ni, zr_eq, gd_t, bd_s, if_true, if_false, Bool.not_true, Bool.not_false, ↓reduceIte, decide_false, decide_true]))
    · rintro kk _ _ ⟨rfl, rfl⟩
      unfold lX4_goTogether_7
      rw [if_pos (by rw [h22]; exact nI_le (Nat.le_refl _) (by omega))]
      dsimp only
      rw [ni_and]
      rfl
  have hb : so2 Z set nl &&& nt2 Z set nl < 4096 := Nat.lt_of_le_of_lt Nat.and_le_left (Nat.lt_of_lt_of_le (orf_lt nl (w := 10) (fun j _ => (fc_k hB j).1)) (by decide))
  rw [h, gdl_m hB]
  constructor
  · intro g
    rw [g, if_pos rfl]
  · intro g
    rw [if_neg (ni_ne g (by omega) (by omega))]
theorem m_sets {Z : zT} {m nl : Nat} (hB : MB Z) (h2 : Z 2 0 = nI m) (hm : m ≤ 4) (h22 : Z 22 0 = nI nl) (hl : nl ≤ 99) (hg : gdl Z nl (2 ^ (3 * m) - 1)) : ∃ b, b < 2 ^ (3 * m) ∧ gdl Z nl b ∧ (∀ j, j < 2 ^ (3 * m) → gdl Z nl j → pc b ≤ pc j ∧ (j < b → pc b < pc j)) ∧ it1 (lX4_liars_18 Z) FU (nI (2 ^ (3 * m) - 1)) (nI 0) = some (nI b, Z) := by
  have hN : 2 ^ (3 * m) ≤ 4096 := Nat.pow_le_pow_right (n := 2) (by omega) (show 3 * m ≤ 12 by omega)
  have hN1 : 0 < 2 ^ (3 * m) := Nat.two_pow_pos _
  have e2 : js (1 : Int32) ((3 : Int32) * nI m) = nI (2 ^ (3 * m)) := by
    rw [show (3 : Int32) * nI m = nI (3 * m) from ni_mul 3 m]
    exact js_2 (by omega)
  refine it1_up (Q := fun o => ∃ b, b < 2 ^ (3 * m) ∧ gdl Z nl b ∧ (∀ j, j < 2 ^ (3 * m) → gdl Z nl j → pc b ≤ pc j ∧ (j < b → pc b < pc j)) ∧ o = some (nI b, Z)) (N := 2 ^ (3 * m)) (fun k x => ∃ b, x = nI b ∧ b < 2 ^ (3 * m) ∧ (b < k ∨ b = 2 ^ (3 * m) - 1) ∧ gdl Z nl b ∧ ∀ j, j < k → gdl Z nl j → pc b ≤ pc j ∧ (j < b → pc b < pc j)) ?_ ?_ (F := FU) (FU_lt (by omega)) ⟨2 ^ (3 * m) - 1, rfl, by omega, Or.inr rfl, hg, fun j hj => absurd hj (Nat.not_lt_zero _)⟩
  · rintro kk k _ hk ⟨b, rfl, h3, h4, h5, h6⟩
    have o1 := m_ones (Z := Z) (s := k) (by omega)
    have o2 := m_ones (Z := Z) (s := b) (by omega)
    have p1 := pc_le k
    have p2 := pc_le b
    have hlt : ¬ js (1 : Int32) ((3 : Int32) * Z 2 0) ≤ nI k := by rw [h2, e2]; exact nI_ge hk (by omega)
    have hk1 : nI k + (1 : Int32) = nI (k + 1) := nI_1 k
    have hkeep : lX4_liars_18 Z kk (nI b) (nI k) = kk (nI b) (nI (k + 1)) → (gdl Z nl k → pc b ≤ pc k) → ∃ s', lX4_liars_18 Z kk (nI b) (nI k) = kk s' (nI (k + 1)) ∧ ∃ b, s' = nI b ∧ b < 2 ^ (3 * m) ∧ (b < k + 1 ∨ b = 2 ^ (3 * m) - 1) ∧ gdl Z nl b ∧ ∀ j, j < k + 1 → gdl Z nl j → pc b ≤ pc j ∧ (j < b → pc b < pc j) := by
      intro g1 g2
      refine ⟨nI b, g1, b, rfl, h3, ?_, h5, fun j hj hgj => ?_⟩
      · rcases h4 with h4 | h4
        · exact Or.inl (by omega)
        · exact Or.inr h4
      · rcases Nat.lt_or_ge j k with c | c
        · exact h6 j c hgj
        · obtain rfl : j = k := by omega
          refine ⟨g2 hgj, fun hjb => ?_⟩
          rcases h4 with h4 | h4
          · omega
          · have this : pc j < pc (2 ^ (3 * m) - 1) := full_k (by omega) (by omega) (by omega)
            have := g2 hgj
            rw [← h4] at *
            omega
    by_cases c1 : pc b ≤ pc k
    · refine hkeep ?_ fun _ => c1
      unfold lX4_liars_18
      rw [if_neg hlt, o1, bd_s, o2, bd_s, njE, if_pos (nI_le c1 (by omega))]
      dsimp only
      rw [nmE, hk1]
    · by_cases c2 : gdl Z nl k
      · refine ⟨nI k, ?_, k, rfl, hk, Or.inl (by omega), c2, fun j hj hgj => ?_⟩
        · unfold lX4_liars_18
          rw [if_neg hlt, o1, bd_s, o2, bd_s, njE, if_neg (nI_ge (by omega) (by omega)), (m_tog hB h22 hl (by omega)).1 c2, bd_s, if_neg (show ¬ nI 1 = (0 : Int32) from by decide)]
          dsimp only
          rw [nmE, hk1]
        · rcases Nat.lt_or_ge j k with c | c
          · have := (h6 j c hgj).1
            exact ⟨by omega, fun _ => by omega⟩
          · obtain rfl : j = k := by omega
            exact ⟨Nat.le_refl _, fun c => by omega⟩
      · refine hkeep ?_ fun g => absurd g c2
        unfold lX4_liars_18
        rw [if_neg hlt, o1, bd_s, o2, bd_s, njE, if_neg (nI_ge (by omega) (by omega)), (m_tog hB h22 hl (by omega)).2 c2, bd_s, if_pos (show nI 0 = (0 : Int32) from rfl)]
        dsimp only
        rw [nmE, hk1]
  · rintro kk _ ⟨b, rfl, h3, h4, h5, h6⟩
    refine ⟨b, h3, h5, h6, ?_⟩
    unfold lX4_liars_18
    rw [if_pos]
    rw [h2, e2]
    exact nI_le (Nat.le_refl _) (by omega)
/-- an operation that makes cells -/
abbrev OpN (a v w n : Nat) (o : Option (Int32 × sT × pT × zT × Nat)) (o' : Option (Int32 × zT)) : Prop := ∃ r S' P' Y' I' n' Z' m nn nl nw, n ≤ n' ∧ o = some (r, S', P', enc a Y' I', n') ∧ o' = some (r, Z') ∧ Rel a v w S' P' Y' I' n' Z' m nn nl nw
theorem op_liars {a v w n m nn nl nw : Nat} {S : sT} {P : pT} {Y I Z : zT} (E : Nat → Nat) (hR0 : Rel a v w S P Y I n Z m nn nl nw) : OpN a v w n (fX0_liars E S P (enc a Y I) n a) (fX4_liars Z) := by
  have hR := R_z (f := 0) (i := 0) (x := (0 : Int32)) rfl hR0
  unfold fX4_liars
  generalize zset Z 0 0 (0 : Int32) = Z1 at hR ⊢
  clear hR0
  have hn : a + 741 ≤ n := hR.2.1
  have hS5 : ∀ x, x < n → snew (snew S n 20 10) (n + 1) 20 10 x = S x := fun x hx => by unfold snew; rw [if_neg (by omega), if_neg (by omega)]
  have hP5 : ∀ x j, x < n → pclr (pclr P n) (n + 1) x j = P x j := fun x j hx => by unfold pclr; rw [if_neg (by omega), if_neg (by omega)]
  have hI5 : ∀ x, x < n → zclr (zclr I n) (n + 1) x = I x := fun x hx => by funext j; unfold zclr; rw [if_neg (by omega), if_neg (by omega)]
  have hR5 : Rel a v w (snew (snew S n 20 10) (n + 1) 20 10) (pclr (pclr P n) (n + 1)) Y (zclr (zclr I n) (n + 1)) (n + 2) Z1 m nn nl nw := R_ext (by omega) hS5 hP5 hI5 hR
  have hI7 : zclr (zclr (enc a Y I) n) (n + 1) = enc a Y (zclr (zclr I n) (n + 1)) := by rw [enc_clr (by omega), enc_clr (by omega)]
  have hkp : isk (snew (snew S n 20 10) (n + 1) 20 10) n 20 = true := by unfold isk snew; rw [if_neg (by omega), if_pos rfl]; rfl
  have hnp : (snew (snew S n 20 10) (n + 1) 20 10 n).2 = 10 := by unfold snew; rw [if_neg (by omega), if_pos rfl]
  have hkq : isk (snew (snew S n 20 10) (n + 1) 20 10) (n + 1) 20 = true := by unfold isk snew; rw [if_pos rfl]; rfl
  have hnq : (snew (snew S n 20 10) (n + 1) 20 10 (n + 1)).2 = 10 := by unfold snew; rw [if_pos rfl]
  have h0 : ∀ f, zclr (zclr I n) (n + 1) n f = nI 0 ∧ zclr (zclr I n) (n + 1) (n + 1) f = nI 0 := fun f => by
    unfold zclr
    refine ⟨?_, if_pos rfl⟩
    rw [if_neg (by omega), if_pos rfl]
    rfl
  unfold fX0_liars
  rw [nmE, nmE, nmE, nmE, nmE, nmE, nmE, nmE, njE, njE, hI7]
  clear hI7
  generalize snew (snew S n 20 10) (n + 1) 20 10 = S5 at hR5 hkp hnp hkq hnq hS5 ⊢
  generalize pclr (pclr P n) (n + 1) = P5 at hR5 hP5 ⊢
  generalize zclr (zclr I n) (n + 1) = I5 at hR5 h0 hI5 ⊢
  obtain ⟨⟨hv, hw, hA, h4, h5, hL, hM⟩, hn', hX, hN, hB, hC, hP, hK⟩ := id hR5
  have hm4 : m ≤ 4 := hN.2.1.1
  have hl99 : nl ≤ 99 := hN.2.1.2.2.1
  obtain ⟨I', i1, i2, i3⟩ := e_lines (p := n) (q := n + 1) (J := fun (I95 : zT) (x3_95 : Int32) => nj (it1 (lX0_liars_101 n (n + 1) S5 P5 (n + 1 + 1) I95 x3_95) FU) fun k101 => k101 (-1 : Int32) (0 : Int32)) hR5 (by omega) (by omega) (by omega) hkp hnp hkq hnq h0
  have hwh : ∀ j, j < nl → wh Z1 j < 3 * m := fun j hj => wh_m hC hm4 hj
  have hsy : sy Z1 nl < 2 ^ (3 * m) := orf_lt nl hwh
  have hN2 : 2 ^ (3 * m) ≤ 4096 := Nat.pow_le_pow_right (n := 2) (by omega) (show 3 * m ≤ 12 by omega)
  have hso : ∀ f, so Z1 f nl < 4096 := fun f => Nat.lt_of_lt_of_le (orf_lt nl hwh) hN2
  have hnt : ∀ f, nt Z1 f nl < 4096 := fun f => Nat.lt_of_lt_of_le (orf_lt nl hwh) hN2
  have hsub : ∀ x, x < 4096 → (x &&& cm (sy Z1 nl) = 0 ↔ ∀ i, i < 12 → x.testBit i = true → (sy Z1 nl).testBit i = true) := fun x hx => andcm (w := 12) hx (by omega) (by omega)
  have hsyb : ∀ j, j < nl → (sy Z1 nl).testBit (wh Z1 j) = true := fun j hj => (orf_tb nl).mpr ⟨j, hj, rfl, rfl⟩
  have gsy : gdl Z1 nl (sy Z1 nl) := fun i j hi _ _ _ _ => Or.inl (hsyb i hi)
  have hge : ∀ s, s < 4096 → (gdl Z1 nl s ↔ ∀ f, f < 10 → so Z1 f nl &&& cm s = 0 ∨ nt Z1 f nl &&& cm s = 0) := fun s hs => gdl_e hB hC hm4 (by omega)
  obtain ⟨b, b1, b2⟩ := e_sets (S := S5) (P := P5) (M := enc a Y I') (p := n) (q := n + 1) (n' := n + 1 + 1) (y := sy Z1 nl) (X := fun f => so Z1 f nl) (Y := fun f => nt Z1 f nl) hkp hnp hkq hnq (fun f _ => by rw [enc_o (by omega)]; exact (i2 f).1) (fun f _ => by rw [enc_o (by omega)]; exact (i2 f).2) hso hnt (by omega) ⟨(hsub _ (by omega)).mpr fun _ _ h => h, (hge _ (by omega)).mp gsy⟩
  have gfull : gdl Z1 nl (2 ^ (3 * m) - 1) := fun i j hi _ _ _ _ => Or.inl (by rw [Nat.testBit_two_pow_sub_one]; exact decide_eq_true (hwh i hi))
  obtain ⟨b', c1, c2, c3, c4⟩ := m_sets hB (VN_m hN) hm4 (VN_nl hN) hl99 gfull
  have hbb : b = b' := by
    obtain ⟨d1, ⟨d2, d3⟩, d4⟩ := b1
    have gb : gdl Z1 nl b := (hge b (by omega)).mpr d3
    have hc : b' &&& sy Z1 nl < 4096 := Nat.lt_of_le_of_lt Nat.and_le_left (by omega)
    have hcs : b' &&& sy Z1 nl ≤ sy Z1 nl := Nat.and_le_right
    have gc : gdl Z1 nl (b' &&& sy Z1 nl) := fun i j hi hj h1 h2 h3 => by
      rcases c2 i j hi hj h1 h2 h3 with h | h
      · exact Or.inl (by rw [Nat.testBit_and, h, hsyb i hi]; rfl)
      · exact Or.inr (by rw [Nat.testBit_and, h, hsyb j hj]; rfl)
    have q1 := (d4 (b' &&& sy Z1 nl) (by omega) ⟨(hsub _ hc).mpr fun i _ h => by rw [Nat.testBit_and, Bool.and_eq_true] at h; exact h.2, (hge _ hc).mp gc⟩).1
    obtain ⟨q2, q3⟩ := pcn_and b' (sy Z1 nl) 12
    have q2 : pc (b' &&& sy Z1 nl) ≤ pc b' := q2
    obtain ⟨q4, q5⟩ := c3 b (by omega) gb
    have hsubb : b' &&& cm (sy Z1 nl) = 0 := (hsub b' (by omega)).mpr (q3 (show pc (b' &&& sy Z1 nl) = pc b' by omega))
    have hb' : b' ≤ sy Z1 nl := by
      have e : b' &&& sy Z1 nl = b' := by
        apply Nat.eq_of_testBit_eq
        intro i
        rw [Nat.testBit_and]
        rcases Nat.lt_or_ge i 12 with c | c
        · cases hbi : b'.testBit i
          · rfl
          · rw [(hsub b' (by omega)).mp hsubb i c hbi]; rfl
        · rw [Nat.testBit_lt_two_pow (Nat.lt_of_lt_of_le (show b' < 2 ^ 12 by omega) (Nat.pow_le_pow_right (by omega) c))]; rfl
      omega
    have q6 := (d4 b' (by omega) ⟨hsubb, (hge b' (by omega)).mp c2⟩).2
    have q7 : ¬ b < b' := fun h => by have := q5 h; omega
    have q8 : ¬ b' < b := fun h => by have := q6 h; omega
    omega
  subst hbb
  refine ⟨nI b, S5, P5, Y, I', n + 2, Z1, m, nn, nl, nw, by omega, ?_, ?_, ?_⟩
  · refine Eq.trans i3 ?_
    rw [njE]
    exact b2
  · rw [nmE, nmE, njE]
    refine Eq.trans ?_ c4
    rw [VN_m hN, show (3 : Int32) * nI m = nI (3 * m) from ni_mul 3 m, show js (1 : Int32) (nI (3 * m)) = nI (2 ^ (3 * m)) from js_2 (by omega), show nI (2 ^ (3 * m)) - (1 : Int32) = nI (2 ^ (3 * m) - 1) from ni_sub (b := 1) (Nat.two_pow_pos _)]
    rfl
  · exact R_ext (by omega) hS5 hP5 (fun x hx => (i1 x (by omega) (by omega)).trans (hI5 x hx)) hR
