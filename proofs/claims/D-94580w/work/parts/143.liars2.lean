/-! LAYER 2: liars: the lines on both sides -/
def wh (Z : zT) (i : Nat) : Nat := ix (Z 23 i)
def fc (Z : zT) (i : Nat) : Nat := ix (Z 24 i)
def sd (Z : zT) (i : Nat) : Bool := decide (Z 25 i = nI 1)
def so (Z : zT) (f : Nat) : Nat → Nat := orf (fun j => decide (fc Z j = f) && sd Z j) (wh Z)
def nt (Z : zT) (f : Nat) : Nat → Nat := orf (fun j => decide (fc Z j = f) && !(sd Z j)) (wh Z)
def sy (Z : zT) : Nat → Nat := orf (fun _ => true) (wh Z)
theorem wh_k {Z : zT} (hB : MB Z) (i : Nat) : wh Z i < 12 ∧ Z 23 i = nI (wh Z i) := by
  obtain ⟨k, hk, e⟩ := MB_at hB 23 i (by decide)
  have hk : k ≤ 11 := hk
  unfold wh
  rw [e, ni_ix (by omega)]
  exact ⟨by omega, rfl⟩
theorem fc_k {Z : zT} (hB : MB Z) (i : Nat) : fc Z i < 10 ∧ Z 24 i = nI (fc Z i) := by
  obtain ⟨k, hk, e⟩ := MB_at hB 24 i (by decide)
  have hk : k ≤ 9 := hk
  unfold fc
  rw [e, ni_ix (by omega)]
  exact ⟨by omega, rfl⟩
theorem sd_k {Z : zT} (hB : MB Z) (i : Nat) : (sd Z i = true ∧ Z 25 i = nI 1) ∨ (sd Z i = false ∧ Z 25 i = nI 0) := by
  obtain ⟨k, hk, e⟩ := MB_at hB 25 i (by decide)
  have hk : k ≤ 1 := hk
  rcases (show k = 0 ∨ k = 1 by omega) with rfl | rfl
  · exact Or.inr ⟨decide_eq_false (by rw [e]; decide), e⟩
  · exact Or.inl ⟨decide_eq_true e, e⟩
theorem wh_m {Z : zT} {m nl : Nat} (hC : MC m nl Z) (hm : m ≤ 4) {i : Nat} (hi : i < nl) : wh Z i < 3 * m := by
  obtain ⟨k, hk, e⟩ := hC.2.2.2.2.2.2.1 i hi
  unfold wh
  rw [e, ni_ix (by omega)]
  exact hk
theorem e_lines {a v w n m nn nl nw : Nat} {S : sT} {P : pT} {Y I Z : zT} {p q : Nat} {J : zT → Int32 → Option (Int32 × sT × pT × zT × Nat)} (hR : Rel a v w S P Y I n Z m nn nl nw) (hp : a + 741 ≤ p) (hq : a + 741 ≤ q) (hpq : p ≠ q) (hkp : isk S p 20 = true) (hnp : (S p).2 = 10) (hkq : isk S q 20 = true) (hnq : (S q).2 = 10) (h0 : ∀ f, I p f = nI 0 ∧ I q f = nI 0) :
    ∃ I', (∀ y, y ≠ p → y ≠ q → I' y = I y) ∧ (∀ f, I' p f = nI (so Z f nl) ∧ I' q f = nI (nt Z f nl)) ∧ it2 (lX0_liars_15 p a q S P J) FU (enc a Y I) (nI 0) (nI 0) = J (enc a Y I') (nI (sy Z nl)) := by
  obtain ⟨⟨hv, hw, hA, h4, h5, hL, hM⟩, hn, hX, hN, hB, hC, hP, hK⟩ := id hR
  have hm4 : m ≤ 4 := hN.2.1.1
  have hn20 : nn ≤ 20 := hN.2.1.2.1
  have hl99 : nl ≤ 99 := hN.2.1.2.2.1
  have hw9 : nw ≤ 9 := hN.2.1.2.2.2
  refine it2_up (Q := fun o => ∃ I', (∀ y, y ≠ p → y ≠ q → I' y = I y) ∧ (∀ f, I' p f = nI (so Z f nl) ∧ I' q f = nI (nt Z f nl)) ∧ o = J (enc a Y I') (nI (sy Z nl))) (N := nl) (fun k s x => ∃ I', s = enc a Y I' ∧ x = nI (sy Z k) ∧ (∀ y, y ≠ p → y ≠ q → I' y = I y) ∧ ∀ f, I' p f = nI (so Z f k) ∧ I' q f = nI (nt Z f k)) ?_ ?_ (F := FU) (FU_lt (by omega)) ⟨I, rfl, rfl, fun _ _ _ => rfl, h0⟩
  · rintro kk k _ _ hk ⟨I', rfl, rfl, hi, hf⟩
    obtain ⟨w1, w2⟩ := wh_k hB k
    obtain ⟨f1, f2⟩ := fc_k hB k
    have e23 : Y 23 k = nI (wh Z k) := by rw [VN_23 hN hk]; exact w2
    have e24 : Y 24 k = nI (fc Z k) := by rw [VN_24 hN hk]; exact f2
    have e22 : Y 22 0 = nI nl := by rw [VN_22 hN, VN_nl hN]
    have ep : ∀ Y I' : zT, ∀ j, enc a Y I' p j = I' p j := fun _ _ _ => enc_o hp
    have eq : ∀ Y I' : zT, ∀ j, enc a Y I' q j = I' q j := fun _ _ _ => enc_o hq
    have epw : ∀ Y I' : zT, ∀ j x, zset (enc a Y I') p j x = enc a Y (zset I' p j x) := fun _ _ _ _ => enc_ow hp
    have eqw : ∀ Y I' : zT, ∀ j x, zset (enc a Y I') q j x = enc a Y (zset I' q j x) := fun _ _ _ _ => enc_ow hq
    have es : sy Z (k + 1) = sy Z k ||| 2 ^ wh Z k := rfl
    have hp1 := (hf (fc Z k)).1
    have hq1 := (hf (fc Z k)).2
    unfold lX0_liars_15
    rcases sd_k hB k with ⟨s1, s2⟩ | ⟨s1, s2⟩
    · have e25 : Y 25 k = nI 1 := by rw [VN_25 hN hk]; exact s2
      refine ⟨enc a Y (zset I' p (fc Z k) (nI (so Z (fc Z k) k ||| 2 ^ wh Z k))), nI (sy Z (k + 1)), ?_, zset I' p (fc Z k) (nI (so Z (fc Z k) k ||| 2 ^ wh Z k)), rfl, rfl, fun y h1 h2 => ?_, fun f => ?_⟩
      · rw [es]
        ((repeat (first | (with_reducible refine Eq.trans njE ?_; (try dsimp only)) | ((conv => lhs; arg 1; simp (maxSteps := 1000000) (disch := omega) only [LA_ka hA, h4, LV_kv hL, LV_p3 hL, LV_k3 hL, LV_n3 hL, LV_pB hL, LV_kB hL, LV_nB hL, er_s17 hv, er_bo hv, e22, e23, e24, e25, hkp, hnp, hkq, hnq, ep, eq, epw, eqw, hp1, hq1, js_2, ni_or, li_0, li_1, li_2, li_3, li_4, li_5, li_6, li_7, li_8, li_9, li_10, li_11, li_12, li_13, li_14, li_15, li_16, li_17, li_18, li_19, li_20, li_21, li_22, li_23, li_24, li_25, li_26, li_27, li_28, li_29, li_30, li_31, li_32, li_33, li_34, li_35, li_36, li_37, li_38, li_39, li_40, li_41, li_42, li_43, li_44, li_45, li_48, li_57, li_59, li_61, li_63, li_64, li_65, li_72, li_90, li_97, li_99, li_101, li_102, li_103, li_104, li_105, li_108, li_109, li_111, li_114, li_115, li_116, li_117, li_118, li_120, li_121, li_122, li_216, li_240, li_255, li_256, li_380, li_400, li_480, li_511, li_512, li_729, li_1000, li_5184, li_10000, li_46656, li_65536, li_99999, li_1000000, ni_add, ni_mul, ni_sub, ni_ix, inb_t, ni_le_t, ni_le_f, ni_lt_t, ni_lt_f, ni_eq_t, ni_eq_f, ni_m1, ni_m1', ni_mn, ni_mn', Nat.add_sub_cancel, Nat.add_zero, zr_ne, zr_ni, zr_eq, gd_t, bd_s, if_true, if_false, Bool.not_true, Bool.not_false, ↓reduceIte, decide_false, decide_true]); (first | with_reducible refine Eq.trans gd_t ?_ | with_reducible refine Eq.trans bd_s ?_ | with_reducible refine Eq.trans bdp_s ?_ | with_reducible refine Eq.trans (if_pos trivial) ?_ | with_reducible refine Eq.trans (if_neg not_false) ?_ | with_reducible refine Eq.trans nmE ?_))));  (try simp (maxSteps := 1000000) (disch := omega) only [LA_ka hA, h4, LV_kv hL, LV_p3 hL, LV_k3 hL, LV_n3 hL, LV_pB hL, LV_kB hL, LV_nB hL, er_s17 hv, er_bo hv, e22, e23, e24, e25, hkp, hnp, hkq, hnq, ep, eq, epw, eqw, hp1, hq1, js_2, ni_or, li_0, li_1, li_2, li_3, li_4, li_5, li_6, li_7, li_8, li_9, li_10, li_11, li_12, li_13, li_14, li_15, li_16, li_17, li_18, li_19, li_20, li_21, li_22, li_23, li_24, li_25, li_26, li_27, li_28, li_29, li_30, li_31, li_32, li_33, li_34, li_35, li_36, li_37, li_38, li_39, li_40, li_41, li_42, li_43, li_44, li_45, li_48, li_57, li_59, li_61, li_63, li_64, li_65, li_72, li_90, li_97, li_99, li_101, li_102, li_103, li_104, li_105, li_108, li_109, li_111, li_114, li_115, li_116, li_117, li_118, li_120, li_121, li_122, li_216, li_240, li_255, li_256, li_380, li_400, li_480, li_511, li_512, li_729, li_1000, li_5184, li_10000, li_46656, li_65536, li_99999, li_1000000, ni_add, ni_mul, ni_sub, ni_ix, inb_t, ni_le_t, ni_le_f, ni_lt_t, ni_lt_f, ni_eq_t, ni_eq_f, ni_m1, ni_m1', ni_mn, ni_mn', Nat.add_sub_cancel, Nat.add_zero, zr_ne, zr_ni, zr_eq, gd_t, bd_s, if_true, if_false, Bool.not_true, Bool.not_false, ↓reduceIte, decide_false, decide_true]))
      · rw [zs_ne h1]; exact hi y h1 h2
      · constructor
        · show zset I' p (fc Z k) _ p f = nI (if (decide (fc Z k = f) && sd Z k) = true then so Z f k ||| 2 ^ wh Z k else so Z f k)
          by_cases e : fc Z k = f
          · subst e; rw [zr_eq, decide_eq_true rfl, s1]; rfl
          · rw [zr_ni (Ne.symm e), decide_eq_false e]; exact (hf f).1
        · rw [zr_ne (Ne.symm hpq)]
          show I' q f = nI (if (decide (fc Z k = f) && !(sd Z k)) = true then nt Z f k ||| 2 ^ wh Z k else nt Z f k)
          rw [s1, Bool.not_true, Bool.and_false]
          exact (hf f).2
    · have e25 : Y 25 k = nI 0 := by rw [VN_25 hN hk]; exact s2
      refine ⟨enc a Y (zset I' q (fc Z k) (nI (nt Z (fc Z k) k ||| 2 ^ wh Z k))), nI (sy Z (k + 1)), ?_, zset I' q (fc Z k) (nI (nt Z (fc Z k) k ||| 2 ^ wh Z k)), rfl, rfl, fun y h1 h2 => ?_, fun f => ?_⟩
      · rw [es]
        ((repeat (first | (with_reducible refine Eq.trans njE ?_; (try dsimp only)) | ((conv => lhs; arg 1; simp (maxSteps := 1000000) (disch := omega) only [LA_ka hA, h4, LV_kv hL, LV_p3 hL, LV_k3 hL, LV_n3 hL, LV_pB hL, LV_kB hL, LV_nB hL, er_s17 hv, er_bo hv, e22, e23, e24, e25, hkp, hnp, hkq, hnq, ep, eq, epw, eqw, hp1, hq1, js_2, ni_or, li_0, li_1, li_2, li_3, li_4, li_5, li_6, li_7, li_8, li_9, li_10, li_11, li_12, li_13, li_14, li_15, li_16, li_17, li_18, li_19, li_20, li_21, li_22, li_23, li_24, li_25, li_26, li_27, li_28, li_29, li_30, li_31, li_32, li_33, li_34, li_35, li_36, li_37, li_38, li_39, li_40, li_41, li_42, li_43, li_44, li_45, li_48, li_57, li_59, li_61, li_63, li_64, li_65, li_72, li_90, li_97, li_99, li_101, li_102, li_103, li_104, li_105, li_108, li_109, li_111, li_114, li_115, li_116, li_117, li_118, li_120, li_121, li_122, li_216, li_240, li_255, li_256, li_380, li_400, li_480, li_511, li_512, li_729, li_1000, li_5184, li_10000, li_46656, li_65536, li_99999, li_1000000, ni_add, ni_mul, ni_sub, ni_ix, inb_t, ni_le_t, ni_le_f, ni_lt_t, ni_lt_f, ni_eq_t, ni_eq_f, ni_m1, ni_m1', ni_mn, ni_mn', Nat.add_sub_cancel, Nat.add_zero, zr_ne, zr_ni, zr_eq, gd_t, bd_s, if_true, if_false, Bool.not_true, Bool.not_false, ↓reduceIte, decide_false, decide_true]); (first | with_reducible refine Eq.trans gd_t ?_ | with_reducible refine Eq.trans bd_s ?_ | with_reducible refine Eq.trans bdp_s ?_ | with_reducible refine Eq.trans (if_pos trivial) ?_ | with_reducible refine Eq.trans (if_neg not_false) ?_ | with_reducible refine Eq.trans nmE ?_))));  (try simp (maxSteps := 1000000) (disch := omega) only [LA_ka hA, h4, LV_kv hL, LV_p3 hL, LV_k3 hL, LV_n3 hL, LV_pB hL, LV_kB hL, LV_nB hL, er_s17 hv, er_bo hv, e22, e23, e24, e25, hkp, hnp, hkq, hnq, ep, eq, epw, eqw, hp1, hq1, js_2, ni_or, li_0, li_1, li_2, li_3, li_4, li_5, li_6, li_7, li_8, li_9, li_10, li_11, li_12, li_13, li_14, li_15, li_16, li_17, li_18, li_19, li_20, li_21, li_22, li_23, li_24, li_25, li_26, li_27, li_28, li_29, li_30, li_31, li_32, li_33, li_34, li_35, li_36, li_37, li_38, li_39, li_40, li_41, li_42, li_43, li_44, li_45, li_48, li_57, li_59, li_61, li_63, li_64, li_65, li_72, li_90, li_97, li_99, li_101, li_102, li_103, li_104, li_105, li_108, li_109, li_111, li_114, li_115, li_116, li_117, li_118, li_120, li_121, li_122, li_216, li_240, li_255, li_256, li_380, li_400, li_480, li_511, li_512, li_729, li_1000, li_5184, li_10000, li_46656, li_65536, li_99999, li_1000000, ni_add, ni_mul, ni_sub, ni_ix, inb_t, ni_le_t, ni_le_f, ni_lt_t, ni_lt_f, ni_eq_t, ni_eq_f, ni_m1, ni_m1', ni_mn, ni_mn', Nat.add_sub_cancel, Nat.add_zero, zr_ne, zr_ni, zr_eq, gd_t, bd_s, if_true, if_false, Bool.not_true, Bool.not_false, ↓reduceIte, decide_false, decide_true]))
      · rw [zs_ne h2]; exact hi y h1 h2
      · constructor
        · rw [zr_ne hpq]
          show I' p f = nI (if (decide (fc Z k = f) && sd Z k) = true then so Z f k ||| 2 ^ wh Z k else so Z f k)
          rw [s1, Bool.and_false]
          exact (hf f).1
        · show zset I' q (fc Z k) _ q f = nI (if (decide (fc Z k = f) && !(sd Z k)) = true then nt Z f k ||| 2 ^ wh Z k else nt Z f k)
          by_cases e : fc Z k = f
          · subst e; rw [zr_eq, decide_eq_true rfl, s1]; rfl
          · rw [zr_ni (Ne.symm e), decide_eq_false e]; exact (hf f).2
  · rintro kk _ _ ⟨I', rfl, rfl, hi, hf⟩
    have e22 : Y 22 0 = nI nl := by rw [VN_22 hN, VN_nl hN]
    refine ⟨I', hi, hf, ?_⟩
    unfold lX0_liars_15
    ((repeat (first | (with_reducible refine Eq.trans njE ?_; (try dsimp only)) | ((conv => lhs; arg 1; simp (maxSteps := 1000000) (disch := omega) only [LA_ka hA, h4, LV_kv hL, er_s17 hv, e22, li_0, li_1, li_2, li_3, li_4, li_5, li_6, li_7, li_8, li_9, li_10, li_11, li_12, li_13, li_14, li_15, li_16, li_17, li_18, li_19, li_20, li_21, li_22, li_23, li_24, li_25, li_26, li_27, li_28, li_29, li_30, li_31, li_32, li_33, li_34, li_35, li_36, li_37, li_38, li_39, li_40, li_41, li_42, li_43, li_44, li_45, li_48, li_57, li_59, li_61, li_63, li_64, li_65, li_72, li_90, li_97, li_99, li_101, li_102, li_103, li_104, li_105, li_108, li_109, li_111, li_114, li_115, li_116, li_117, li_118, li_120, li_121, li_122, li_216, li_240, li_255, li_256, li_380, li_400, li_480, li_511, li_512, li_729, li_1000, li_5184, li_10000, li_46656, li_65536, li_99999, li_1000000, ni_add, ni_mul, ni_sub, ni_ix, inb_t, ni_le_t, ni_le_f, ni_lt_t, ni_lt_f, ni_eq_t, ni_eq_f, ni_m1, ni_m1', ni_mn, ni_mn', Nat.add_sub_cancel, Nat.add_zero, zr_ne, zr_ni, zr_eq, gd_t, bd_s, if_true, if_false, Bool.not_true, Bool.not_false, ↓reduceIte, decide_false, decide_true]); (first | with_reducible refine Eq.trans gd_t ?_ | with_reducible refine Eq.trans bd_s ?_ | with_reducible refine Eq.trans bdp_s ?_ | with_reducible refine Eq.trans (if_pos trivial) ?_ | with_reducible refine Eq.trans (if_neg not_false) ?_ | with_reducible refine Eq.trans nmE ?_))));  (try simp (maxSteps := 1000000) (disch := omega) only [LA_ka hA, h4, LV_kv hL, er_s17 hv, e22, li_0, li_1, li_2, li_3, li_4, li_5, li_6, li_7, li_8, li_9, li_10, li_11, li_12, li_13, li_14, li_15, li_16, li_17, li_18, li_19, li_20, li_21, li_22, li_23, li_24, li_25, li_26, li_27, li_28, li_29, li_30, li_31, li_32, li_33, li_34, li_35, li_36, li_37, li_38, li_39, li_40, li_41, li_42, li_43, li_44, li_45, li_48, li_57, li_59, li_61, li_63, li_64, li_65, li_72, li_90, li_97, li_99, li_101, li_102, li_103, li_104, li_105, li_108, li_109, li_111, li_114, li_115, li_116, li_117, li_118, li_120, li_121, li_122, li_216, li_240, li_255, li_256, li_380, li_400, li_480, li_511, li_512, li_729, li_1000, li_5184, li_10000, li_46656, li_65536, li_99999, li_1000000, ni_add, ni_mul, ni_sub, ni_ix, inb_t, ni_le_t, ni_le_f, ni_lt_t, ni_lt_f, ni_eq_t, ni_eq_f, ni_m1, ni_m1', ni_mn, ni_mn', Nat.add_sub_cancel, Nat.add_zero, zr_ne, zr_ni, zr_eq, gd_t, bd_s, if_true, if_false, Bool.not_true, Bool.not_false, ↓reduceIte, decide_false, decide_true]))
/-- no fact was said both ways by others than a set -/
def gdl (Z : zT) (nl set : Nat) : Prop := ∀ i j, i < nl → j < nl → fc Z i = fc Z j → sd Z i = true → sd Z j = false → set.testBit (wh Z i) = true ∨ set.testBit (wh Z j) = true
theorem so_and {Z : zT} {m nl set f : Nat} (hC : MC m nl Z) (hm : m ≤ 4) (hs : set < 4294967296) : so Z f nl &&& cm set = 0 ↔ ∀ j, j < nl → fc Z j = f → sd Z j = true → set.testBit (wh Z j) = true := by
  unfold so
  rw [andcm (w := 12) (orf_lt nl (fun j hj => by have := wh_m hC hm hj; omega)) (by omega) hs]
  constructor
  · intro h j hj h1 h2
    exact h (wh Z j) (by have := wh_m hC hm hj; omega) ((orf_tb nl).mpr ⟨j, hj, by rw [decide_eq_true h1, h2]; rfl, rfl⟩)
  · intro h i _ hb
    obtain ⟨j, hj, hc, rfl⟩ := (orf_tb nl).mp hb
    rw [Bool.and_eq_true, decide_eq_true_eq] at hc
    exact h j hj hc.1 hc.2
theorem nt_and {Z : zT} {m nl set f : Nat} (hC : MC m nl Z) (hm : m ≤ 4) (hs : set < 4294967296) : nt Z f nl &&& cm set = 0 ↔ ∀ j, j < nl → fc Z j = f → sd Z j = false → set.testBit (wh Z j) = true := by
  unfold nt
  rw [andcm (w := 12) (orf_lt nl (fun j hj => by have := wh_m hC hm hj; omega)) (by omega) hs]
  constructor
  · intro h j hj h1 h2
    exact h (wh Z j) (by have := wh_m hC hm hj; omega) ((orf_tb nl).mpr ⟨j, hj, by rw [decide_eq_true h1, h2]; rfl, rfl⟩)
  · intro h i _ hb
    obtain ⟨j, hj, hc, rfl⟩ := (orf_tb nl).mp hb
    rw [Bool.and_eq_true, decide_eq_true_eq, Bool.not_eq_true'] at hc
    exact h j hj hc.1 hc.2
theorem gdl_e {Z : zT} {m nl set : Nat} (hB : MB Z) (hC : MC m nl Z) (hm : m ≤ 4) (hs : set < 4294967296) : gdl Z nl set ↔ ∀ f, f < 10 → so Z f nl &&& cm set = 0 ∨ nt Z f nl &&& cm set = 0 := by
  constructor
  · intro h f hf
    rw [so_and hC hm hs, nt_and hC hm hs]
    refine Classical.byContradiction fun c => ?_
    rw [not_or] at c
    apply c.1
    intro i hi h1 h2
    refine Classical.byContradiction fun c1 => c.2 fun j hj h3 h4 => ?_
    rcases h i j hi hj (h1.trans h3.symm) h2 h4 with g | g
    · exact absurd g c1
    · exact g
  · intro h i j hi hj h1 h2 h3
    have := h (fc Z i) (fc_k hB i).1
    rw [so_and hC hm hs, nt_and hC hm hs] at this
    rcases this with g | g
    · exact Or.inl (g i hi rfl h2)
    · exact Or.inr (g j hj h1.symm h3)
/-- OneEye's look at a set -/
theorem e_can {S : sT} {M : zT} {p q so' nt' : Nat} {X Y : Nat → Nat} {set : Nat} {J : Int32 → Option (Int32 × sT × pT × zT × Nat)} (hkp : isk S p 20 = true) (hnp : (S p).2 = 10) (hkq : isk S q 20 = true) (hnq : (S q).2 = 10) (hp : ∀ f, f < 10 → M p f = nI (X f)) (hq : ∀ f, f < 10 → M q f = nI (Y f)) (hX : ∀ f, X f < 4096) (hY : ∀ f, Y f < 4096) (hs : set < 4294967296) :
    ((∀ f, f < 10 → X f &&& cm set = 0 ∨ Y f &&& cm set = 0) → it1 (lX0_liars_144 p q S M (nI set) J) FU (nI 1) (nI 0) = J (nI 1)) ∧ (¬ (∀ f, f < 10 → X f &&& cm set = 0 ∨ Y f &&& cm set = 0) → it1 (lX0_liars_144 p q S M (nI set) J) FU (nI 1) (nI 0) = J (nI 0)) := by
  refine it1_up (Q := fun o => ((∀ f, f < 10 → X f &&& cm set = 0 ∨ Y f &&& cm set = 0) → o = J (nI 1)) ∧ (¬ (∀ f, f < 10 → X f &&& cm set = 0 ∨ Y f &&& cm set = 0) → o = J (nI 0))) (N := 10) (fun k x => (x = nI 1 ∧ ∀ f, f < k → X f &&& cm set = 0 ∨ Y f &&& cm set = 0) ∨ (x = nI 0 ∧ ¬ ∀ f, f < k → X f &&& cm set = 0 ∨ Y f &&& cm set = 0)) ?_ ?_ (F := FU) (FU_lt (by omega)) (Or.inl ⟨rfl, fun f hf => absurd hf (Nat.not_lt_zero _)⟩)
  · rintro kk k x hk (⟨rfl, h⟩ | ⟨rfl, h⟩)
    · have e1 := hp k hk
      have e2 := hq k hk
      have b1 : X k &&& cm set < 4096 := Nat.lt_of_le_of_lt Nat.and_le_left (hX k)
      have b2 : Y k &&& cm set < 4096 := Nat.lt_of_le_of_lt Nat.and_le_left (hY k)
      have ec : nI set ^^^ (-nI 1) = nI (cm set) := ni_cm hs
      have hkk : (X k &&& cm set = 0 ∨ Y k &&& cm set = 0) → ∀ f, f < k + 1 → X f &&& cm set = 0 ∨ Y f &&& cm set = 0 := fun g f hf => by
        rcases Nat.lt_or_ge f k with c | c
        · exact h f c
        · obtain rfl : f = k := by omega
          exact g
      unfold lX0_liars_144
      by_cases c1 : X k &&& cm set = 0
      · refine ⟨nI 1, ?_, Or.inl ⟨rfl, hkk (Or.inl c1)⟩⟩
        ((repeat (first | (with_reducible refine Eq.trans njE ?_; (try dsimp only)) | ((conv => lhs; arg 1; simp (maxSteps := 1000000) (disch := omega) only [hkp, hnp, hkq, hnq, e1, e2, ec, ni_and, c1, li_0, li_1, li_2, li_3, li_4, li_5, li_6, li_7, li_8, li_9, li_10, li_11, li_12, li_13, li_14, li_15, li_16, li_17, li_18, li_19, li_20, li_21, li_22, li_23, li_24, li_25, li_26, li_27, li_28, li_29, li_30, li_31, li_32, li_33, li_34, li_35, li_36, li_37, li_38, li_39, li_40, li_41, li_42, li_43, li_44, li_45, li_48, li_57, li_59, li_61, li_63, li_64, li_65, li_72, li_90, li_97, li_99, li_101, li_102, li_103, li_104, li_105, li_108, li_109, li_111, li_114, li_115, li_116, li_117, li_118, li_120, li_121, li_122, li_216, li_240, li_255, li_256, li_380, li_400, li_480, li_511, li_512, li_729, li_1000, li_5184, li_10000, li_46656, li_65536, li_99999, li_1000000, ni_add, ni_mul, ni_sub, ni_ix, inb_t, ni_le_t, ni_le_f, ni_lt_t, ni_lt_f, ni_eq_t, ni_eq_f, ni_m1, ni_m1', ni_mn, ni_mn', Nat.add_sub_cancel, Nat.add_zero, zr_ne, zr_ni, zr_eq, gd_t, bd_s, if_true, if_false, Bool.not_true, Bool.not_false, ↓reduceIte, decide_false, decide_true]); (first | with_reducible refine Eq.trans gd_t ?_ | with_reducible refine Eq.trans bd_s ?_ | with_reducible refine Eq.trans bdp_s ?_ | with_reducible refine Eq.trans (if_pos trivial) ?_ | with_reducible refine Eq.trans (if_neg not_false) ?_ | with_reducible refine Eq.trans nmE ?_))));  (try simp (maxSteps := 1000000) (disch := omega) only [hkp, hnp, hkq, hnq, e1, e2, ec, ni_and, c1, li_0, li_1, li_2, li_3, li_4, li_5, li_6, li_7, li_8, li_9, li_10, li_11, li_12, li_13, li_14, li_15, li_16, li_17, li_18, li_19, li_20, li_21, li_22, li_23, li_24, li_25, li_26, li_27, li_28, li_29, li_30, li_31, li_32, li_33, li_34, li_35, li_36, li_37, li_38, li_39, li_40, li_41, li_42, li_43, li_44, li_45, li_48, li_57, li_59, li_61, li_63, li_64, li_65, li_72, li_90, li_97, li_99, li_101, li_102, li_103, li_104, li_105, li_108, li_109, li_111, li_114, li_115, li_116, li_117, li_118, li_120, li_121, li_122, li_216, li_240, li_255, li_256, li_380, li_400, li_480, li_511, li_512, li_729, li_1000, li_5184, li_10000, li_46656, li_65536, li_99999, li_1000000, ni_add, ni_mul, ni_sub, ni_ix, inb_t, ni_le_t, ni_le_f, ni_lt_t, ni_lt_f, ni_eq_t, ni_eq_f, ni_m1, ni_m1', ni_mn, ni_mn', Nat.add_sub_cancel, Nat.add_zero, zr_ne, zr_ni, zr_eq, gd_t, bd_s, if_true, if_false, Bool.not_true, Bool.not_false, ↓reduceIte, decide_false, decide_true]))
      · by_cases c2 : Y k &&& cm set = 0
        · refine ⟨nI 1, ?_, Or.inl ⟨rfl, hkk (Or.inr c2)⟩⟩
          ((repeat (first | (with_reducible refine Eq.trans njE ?_; (try dsimp only)) | ((conv => lhs; arg 1; simp (maxSteps := 1000000) (disch := omega) only [hkp, hnp, hkq, hnq, e1, e2, ec, ni_and, c2, li_0, li_1, li_2, li_3, li_4, li_5, li_6, li_7, li_8, li_9, li_10, li_11, li_12, li_13, li_14, li_15, li_16, li_17, li_18, li_19, li_20, li_21, li_22, li_23, li_24, li_25, li_26, li_27, li_28, li_29, li_30, li_31, li_32, li_33, li_34, li_35, li_36, li_37, li_38, li_39, li_40, li_41, li_42, li_43, li_44, li_45, li_48, li_57, li_59, li_61, li_63, li_64, li_65, li_72, li_90, li_97, li_99, li_101, li_102, li_103, li_104, li_105, li_108, li_109, li_111, li_114, li_115, li_116, li_117, li_118, li_120, li_121, li_122, li_216, li_240, li_255, li_256, li_380, li_400, li_480, li_511, li_512, li_729, li_1000, li_5184, li_10000, li_46656, li_65536, li_99999, li_1000000, ni_add, ni_mul, ni_sub, ni_ix, inb_t, ni_le_t, ni_le_f, ni_lt_t, ni_lt_f, ni_eq_t, ni_eq_f, ni_m1, ni_m1', ni_mn, ni_mn', Nat.add_sub_cancel, Nat.add_zero, zr_ne, zr_ni, zr_eq, gd_t, bd_s, if_true, if_false, Bool.not_true, Bool.not_false, ↓reduceIte, decide_false, decide_true]); (first | with_reducible refine Eq.trans gd_t ?_ | with_reducible refine Eq.trans bd_s ?_ | with_reducible refine Eq.trans bdp_s ?_ | with_reducible refine Eq.trans (if_pos trivial) ?_ | with_reducible refine Eq.trans (if_neg not_false) ?_ | with_reducible refine Eq.trans nmE ?_))));  (try simp (maxSteps := 1000000) (disch := omega) only [hkp, hnp, hkq, hnq, e1, e2, ec, ni_and, c2, li_0, li_1, li_2, li_3, li_4, li_5, li_6, li_7, li_8, li_9, li_10, li_11, li_12, li_13, li_14, li_15, li_16, li_17, li_18, li_19, li_20, li_21, li_22, li_23, li_24, li_25, li_26, li_27, li_28, li_29, li_30, li_31, li_32, li_33, li_34, li_35, li_36, li_37, li_38, li_39, li_40, li_41, li_42, li_43, li_44, li_45, li_48, li_57, li_59, li_61, li_63, li_64, li_65, li_72, li_90, li_97, li_99, li_101, li_102, li_103, li_104, li_105, li_108, li_109, li_111, li_114, li_115, li_116, li_117, li_118, li_120, li_121, li_122, li_216, li_240, li_255, li_256, li_380, li_400, li_480, li_511, li_512, li_729, li_1000, li_5184, li_10000, li_46656, li_65536, li_99999, li_1000000, ni_add, ni_mul, ni_sub, ni_ix, inb_t, ni_le_t, ni_le_f, ni_lt_t, ni_lt_f, ni_eq_t, ni_eq_f, ni_m1, ni_m1', ni_mn, ni_mn', Nat.add_sub_cancel, Nat.add_zero, zr_ne, zr_ni, zr_eq, gd_t, bd_s, if_true, if_false, Bool.not_true, Bool.not_false, ↓reduceIte, decide_false, decide_true]))
        · refine ⟨nI 0, ?_, Or.inr ⟨rfl, fun g => ?_⟩⟩
          · ((repeat (first | (with_reducible refine Eq.trans njE ?_; (try dsimp only)) | ((conv => lhs; arg 1; simp (maxSteps := 1000000) (disch := omega) only [hkp, hnp, hkq, hnq, e1, e2, ec, ni_and, li_0, li_1, li_2, li_3, li_4, li_5, li_6, li_7, li_8, li_9, li_10, li_11, li_12, li_13, li_14, li_15, li_16, li_17, li_18, li_19, li_20, li_21, li_22, li_23, li_24, li_25, li_26, li_27, li_28, li_29, li_30, li_31, li_32, li_33, li_34, li_35, li_36, li_37, li_38, li_39, li_40, li_41, li_42, li_43, li_44, li_45, li_48, li_57, li_59, li_61, li_63, li_64, li_65, li_72, li_90, li_97, li_99, li_101, li_102, li_103, li_104, li_105, li_108, li_109, li_111, li_114, li_115, li_116, li_117, li_118, li_120, li_121, li_122, li_216, li_240, li_255, li_256, li_380, li_400, li_480, li_511, li_512, li_729, li_1000, li_5184, li_10000, li_46656, li_65536, li_99999, li_1000000, ni_add, ni_mul, ni_sub, ni_ix, inb_t, ni_le_t, ni_le_f, ni_lt_t, ni_lt_f, ni_eq_t, ni_eq_f, ni_m1, ni_m1', ni_mn, ni_mn', Nat.add_sub_cancel, Nat.add_zero, zr_ne, zr_ni, zr_eq, gd_t, bd_s, if_true, if_false, Bool.not_true, Bool.not_false, ↓reduceIte, decide_false, decide_true]); (first | with_reducible refine Eq.trans gd_t ?_ | with_reducible refine Eq.trans bd_s ?_ | with_reducible refine Eq.trans bdp_s ?_ | with_reducible refine Eq.trans (if_pos trivial) ?_ | with_reducible refine Eq.trans (if_neg not_false) ?_ | with_reducible refine Eq.trans nmE ?_))));  (try simp (maxSteps := 1000000) (disch := omega) only [hkp, hnp, hkq, hnq, e1, e2, ec, ni_and, li_0, li_1, li_2, li_3, li_4, li_5, li_6, li_7, li_8, li_9, li_10, li_11, li_12, li_13, li_14, li_15, li_16, li_17, li_18, li_19, li_20, li_21, li_22, li_23, li_24, li_25, li_26, li_27, li_28, li_29, li_30, li_31, li_32, li_33, li_34, li_35, li_36, li_37, li_38, li_39, li_40, li_41, li_42, li_43, li_44, li_45, li_48, li_57, li_59, li_61, li_63, li_64, li_65, li_72, li_90, li_97, li_99, li_101, li_102, li_103, li_104, li_105, li_108, li_109, li_111, li_114, li_115, li_116, li_117, li_118, li_120, li_121, li_122, li_216, li_240, li_255, li_256, li_380, li_400, li_480, li_511, li_512, li_729, li_1000, li_5184, li_10000, li_46656, li_65536, li_99999, li_1000000, ni_add, ni_mul, ni_sub, ni_ix, inb_t, ni_le_t, ni_le_f, ni_lt_t, ni_lt_f, ni_eq_t, ni_eq_f, ni_m1, ni_m1', ni_mn, ni_mn', Nat.add_sub_cancel, Nat.add_zero, zr_ne, zr_ni, zr_eq, gd_t, bd_s, if_true, if_false, Bool.not_true, Bool.not_false, ↓reduceIte, decide_false, decide_true]))
          · rcases g k (by omega) with g | g
            · exact c1 g
            · exact c2 g
    · unfold lX0_liars_144
      refine ⟨nI 0, ?_, Or.inr ⟨rfl, fun g => h fun f hf => g f (by omega)⟩⟩
      ((repeat (first | (with_reducible refine Eq.trans njE ?_; (try dsimp only)) | ((conv => lhs; arg 1; simp (maxSteps := 1000000) (disch := omega) only [hkp, li_0, li_1, li_2, li_3, li_4, li_5, li_6, li_7, li_8, li_9, li_10, li_11, li_12, li_13, li_14, li_15, li_16, li_17, li_18, li_19, li_20, li_21, li_22, li_23, li_24, li_25, li_26, li_27, li_28, li_29, li_30, li_31, li_32, li_33, li_34, li_35, li_36, li_37, li_38, li_39, li_40, li_41, li_42, li_43, li_44, li_45, li_48, li_57, li_59, li_61, li_63, li_64, li_65, li_72, li_90, li_97, li_99, li_101, li_102, li_103, li_104, li_105, li_108, li_109, li_111, li_114, li_115, li_116, li_117, li_118, li_120, li_121, li_122, li_216, li_240, li_255, li_256, li_380, li_400, li_480, li_511, li_512, li_729, li_1000, li_5184, li_10000, li_46656, li_65536, li_99999, li_1000000, ni_add, ni_mul, ni_sub, ni_ix, inb_t, ni_le_t, ni_le_f, ni_lt_t, ni_lt_f, ni_eq_t, ni_eq_f, ni_m1, ni_m1', ni_mn, ni_mn', Nat.add_sub_cancel, Nat.add_zero, zr_ne, zr_ni, zr_eq, gd_t, bd_s, if_true, if_false, Bool.not_true, Bool.not_false, ↓reduceIte, decide_false, decide_true]); (first | with_reducible refine Eq.trans gd_t ?_ | with_reducible refine Eq.trans bd_s ?_ | with_reducible refine Eq.trans bdp_s ?_ | with_reducible refine Eq.trans (if_pos trivial) ?_ | with_reducible refine Eq.trans (if_neg not_false) ?_ | with_reducible refine Eq.trans nmE ?_))));  (try simp (maxSteps := 1000000) (disch := omega) only [hkp, li_0, li_1, li_2, li_3, li_4, li_5, li_6, li_7, li_8, li_9, li_10, li_11, li_12, li_13, li_14, li_15, li_16, li_17, li_18, li_19, li_20, li_21, li_22, li_23, li_24, li_25, li_26, li_27, li_28, li_29, li_30, li_31, li_32, li_33, li_34, li_35, li_36, li_37, li_38, li_39, li_40, li_41, li_42, li_43, li_44, li_45, li_48, li_57, li_59, li_61, li_63, li_64, li_65, li_72, li_90, li_97, li_99, li_101, li_102, li_103, li_104, li_105, li_108, li_109, li_111, li_114, li_115, li_116, li_117, li_118, li_120, li_121, li_122, li_216, li_240, li_255, li_256, li_380, li_400, li_480, li_511, li_512, li_729, li_1000, li_5184, li_10000, li_46656, li_65536, li_99999, li_1000000, ni_add, ni_mul, ni_sub, ni_ix, inb_t, ni_le_t, ni_le_f, ni_lt_t, ni_lt_f, ni_eq_t, ni_eq_f, ni_m1, ni_m1', ni_mn, ni_mn', Nat.add_sub_cancel, Nat.add_zero, zr_ne, zr_ni, zr_eq, gd_t, bd_s, if_true, if_false, Bool.not_true, Bool.not_false, ↓reduceIte, decide_false, decide_true]))
  · rintro kk x (⟨rfl, h⟩ | ⟨rfl, h⟩)
    · exact ⟨fun _ => if_pos (by decide), fun g => absurd h g⟩
    · exact ⟨fun g => absurd g h, fun _ => if_pos (by decide)⟩
