/-! LAYER 2: minutes: the whole operation -/
theorem gd_of {α : Type} {b : Bool} {k : Option α} (h : b = true) : gd b k = k := by rw [h, gd_t]
theorem R_snd {a v w n m nn nl nw : Nat} {S : sT} {P : pT} {Y I Z : zT} {c : Nat} (hR : Rel a v w S P Y I n Z m nn nl nw) : Rel a v w S P (snd m Y c) I n (snd m Z c) m nn nl nw := by
  obtain ⟨⟨hv, hw, hA, h4, h5, hL, hM⟩, hn, hX, hN, hB, hC, hP, hK⟩ := id hR
  have hm4 : m ≤ 4 := hN.2.1.1
  have hn20 : nn ≤ 20 := hN.2.1.2.1
  have hl99 : nl ≤ 99 := hN.2.1.2.2.1
  have hw9 : nw ≤ 9 := hN.2.1.2.2.2
  have hy : ∀ g, g ≠ 20 → g ≠ 21 → snd m Y c g = Y g := fun g h1 h2 => snd_o h1 h2
  have hz : ∀ g, g ≠ 20 → g ≠ 21 → snd m Z c g = Z g := fun g h1 h2 => snd_o h1 h2
  refine R_v (fun g hg => hy g (by omega) (by omega)) ⟨hy _ (by omega) (by omega), hy _ (by omega) (by omega), hy _ (by omega) (by omega), hy _ (by omega) (by omega), hy _ (by omega) (by omega)⟩ ⟨hz _ (by omega) (by omega), hz _ (by omega) (by omega), hz _ (by omega) (by omega), hz _ (by omega) (by omega), hz _ (by omega) (by omega), hz _ (by omega) (by omega), hz _ (by omega) (by omega)⟩ ?_ ?_ ?_ ?_ hR
  · unfold VN
    rw [hy 10 (by omega) (by omega), hy 65 (by omega) (by omega), hy 53 (by omega) (by omega), hy 28 (by omega) (by omega), hy 30 (by omega) (by omega), hy 31 (by omega) (by omega), hz 2 (by omega) (by omega), hz 18 (by omega) (by omega), hz 22 (by omega) (by omega), hz 55 (by omega) (by omega), hz 53 (by omega) (by omega), hz 28 (by omega) (by omega), hz 30 (by omega) (by omega), hz 31 (by omega) (by omega)]
    refine ⟨hN.1, hN.2.1, fun g j hj => ?_, hN.2.2.2⟩
    by_cases h1 : g = 20
    · subst h1
      have hj12 : j < 12 := hj
      rw [snd_20, snd_20, VN_7 hN (show 3 * (j / 3) + 1 < 12 by omega), VN_20 hN hj12]
    · by_cases h2 : g = 21
      · subst h2
        have hj4 : j < 4 := hj
        rw [snd_21, snd_21, VN_7 hN (show 3 * j + 1 < 12 by omega), VN_21 hN hj4]
      · rw [hy g h1 h2, hz g h1 h2]; exact hN.2.2.1 g j hj
  · intro g j hg
    by_cases h1 : g = 20
    · subst h1; exact absurd rfl hg
    · by_cases h2 : g = 21
      · subst h2; exact absurd rfl hg
      · rw [hz g h1 h2]; exact hB g j hg
  · obtain ⟨k1, k2, k3, k4, k5, k6, k7, k8⟩ := hC
    unfold MC
    rw [hz 28 (by omega) (by omega), hz 29 (by omega) (by omega), hz 30 (by omega) (by omega), hz 31 (by omega) (by omega), hz 7 (by omega) (by omega), hz 5 (by omega) (by omega), hz 6 (by omega) (by omega), hz 44 (by omega) (by omega), hz 45 (by omega) (by omega), hz 3 (by omega) (by omega), hz 23 (by omega) (by omega)]
    refine ⟨k1, k2, k3, k4, fun u h1 h2 => ?_, k6, k7, k8⟩
    rw [snd_21, if_neg (fun h => by omega)]
    exact k5 u h1 h2
  · unfold PLr at hP ⊢
    rw [hz 44 (by omega) (by omega), hz 43 (by omega) (by omega)]
    exact hP
theorem R_hl {a v w n m nn nl nw : Nat} {S : sT} {P : pT} {Y I Z : zT} {t : Nat} (ht : t ≤ 4) (hR : Rel a v w S P Y I n Z m nn nl nw) : Rel a v w S P (hl t 0 Y) I n (hl t 0 Z) m nn nl nw := by
  obtain ⟨⟨hv, hw, hA, h4, h5, hL, hM⟩, hn, hX, hN, hB, hC, hP, hK⟩ := id hR
  have hm4 : m ≤ 4 := hN.2.1.1
  have hn20 : nn ≤ 20 := hN.2.1.2.1
  have hl99 : nl ≤ 99 := hN.2.1.2.2.1
  have hw9 : nw ≤ 9 := hN.2.1.2.2.2
  have hy : ∀ g, g ≠ 11 → hl t 0 Y g = Y g := fun g h1 => hl_o h1
  have hz : ∀ g, g ≠ 11 → hl t 0 Z g = Z g := fun g h1 => hl_o h1
  refine R_v (fun g hg => hy g (by omega)) ⟨hy _ (by omega), hy _ (by omega), hy _ (by omega), hy _ (by omega), hy _ (by omega)⟩ ⟨hz _ (by omega), hz _ (by omega), hz _ (by omega), hz _ (by omega), hz _ (by omega), hz _ (by omega), hz _ (by omega)⟩ ?_ ?_ ?_ ?_ hR
  · unfold VN
    rw [hy 10 (by omega), hy 65 (by omega), hy 53 (by omega), hy 28 (by omega), hy 30 (by omega), hy 31 (by omega), hz 2 (by omega), hz 18 (by omega), hz 22 (by omega), hz 55 (by omega), hz 53 (by omega), hz 28 (by omega), hz 30 (by omega), hz 31 (by omega)]
    refine ⟨hN.1, hN.2.1, fun g j hj => ?_, hN.2.2.2⟩
    by_cases h1 : g = 11
    · subst h1
      have hj36 : j < 36 := hj
      rw [hl_11, hl_11, VN_7 hN (show 3 * (j / 9) + j % 3 < 12 by omega), VN_11 hN hj36]
    · rw [hy g h1, hz g h1]; exact hN.2.2.1 g j hj
  · intro g j hg
    by_cases h1 : g = 11
    · subst h1; exact absurd rfl hg
    · rw [hz g h1]; exact hB g j hg
  · unfold MC at hC ⊢
    rw [hz 28 (by omega), hz 29 (by omega), hz 30 (by omega), hz 31 (by omega), hz 7 (by omega), hz 5 (by omega), hz 6 (by omega), hz 21 (by omega), hz 44 (by omega), hz 45 (by omega), hz 3 (by omega), hz 23 (by omega)]
    exact hC
  · unfold PLr at hP ⊢
    rw [hz 44 (by omega), hz 43 (by omega)]
    exact hP
/-- all threes' minutes -/
theorem threes_min {a v w n m nn nl nw : Nat} {S : sT} {P : pT} {Y I Z : zT} (hR : Rel a v w S P Y I n Z m nn nl nw) : ∀ k, k ≤ m → ∃ Yk Zk nlk, (∀ (J : zT → Option zT) F, it1 (lX1_aMinute_26 S P v J) (F + k) (enc a Y I) (nI 0) = it1 (lX1_aMinute_26 S P v J) F (enc a Yk I) (nI k)) ∧ (∀ (J' : zT → Option zT) F, it1 (lX4_goesBy_26 J') (F + k) Z (nI 0) = it1 (lX4_goesBy_26 J') F Zk (nI k)) ∧ Rel a v w S P Yk I n Zk m nn nlk nw ∧ Zk 16 0 = Z 16 0 := by
  intro k
  induction k with
  | zero => intro _; exact ⟨Y, Z, nl, fun _ F => rfl, fun _ F => rfl, hR, rfl⟩
  | succ k ih =>
    intro hk
    obtain ⟨Yk, Zk, nlk, e1, e2, e3, e4⟩ := ih (by omega)
    obtain ⟨Y', Z', nl', g1, g2, g3, g4⟩ := three_min e3 (show k < m by omega)
    obtain ⟨⟨hv, hw, hA, h4, h5, hL, hM⟩, hn, hX, hN, hB, hC, hP, hK⟩ := id e3
    have hm4 : m ≤ 4 := hN.2.1.1
    have h16 : Z' 16 0 = Z 16 0 := g4.trans e4
    refine ⟨Y', Z', nl', fun J F => ?_, fun J' F => ?_, g3, h16⟩
    · rw [show F + (k + 1) = F + 1 + k from by omega, e1 J (F + 1), it1_s]
      unfold lX1_aMinute_26
      ((repeat (first | (with_reducible refine Eq.trans njE ?_; (try dsimp only)) | ((conv => lhs; arg 1; simp (maxSteps := 1000000) (disch := omega) only [LV_p0 hL, LV_k0 hL, LV_n0 hL, LV_pT hL, LV_kT hL, er_s15 hv, VN_2 hN, VN_m hN, g1, li_0, li_1, li_2, li_3, li_4, li_5, li_6, li_7, li_8, li_9, li_10, li_11, li_12, li_13, li_14, li_15, li_16, li_17, li_18, li_19, li_20, li_21, li_22, li_23, li_24, li_25, li_26, li_27, li_28, li_29, li_30, li_31, li_32, li_33, li_34, li_35, li_36, li_37, li_38, li_39, li_40, li_41, li_42, li_43, li_44, li_45, li_48, li_57, li_59, li_61, li_63, li_64, li_65, li_72, li_90, li_97, li_99, li_101, li_102, li_103, li_104, li_105, li_108, li_109, li_111, li_114, li_115, li_116, li_117, li_118, li_120, li_121, li_122, li_216, li_240, li_255, li_256, li_380, li_400, li_480, li_511, li_512, li_729, li_1000, li_5184, li_10000, li_46656, li_65536, li_99999, li_1000000, ni_add, ni_mul, ni_sub, ni_ix, inb_t, ni_le_t, ni_le_f, ni_lt_t, ni_lt_f, ni_eq_t, ni_eq_f, ni_m1, ni_m1', ni_mn, ni_mn', Nat.add_sub_cancel, Nat.add_zero, zr_ne, zr_ni, zr_eq, gd_t, bd_s, if_true, if_false, Bool.not_true, Bool.not_false, ↓reduceIte, decide_false, decide_true]); (first | with_reducible refine Eq.trans gd_t ?_ | with_reducible refine Eq.trans bd_s ?_ | with_reducible refine Eq.trans bdp_s ?_ | with_reducible refine Eq.trans (if_pos trivial) ?_ | with_reducible refine Eq.trans (if_neg not_false) ?_ | with_reducible refine Eq.trans nmE ?_))));  (try simp (maxSteps := 1000000) (disch := omega) only [LV_p0 hL, LV_k0 hL, LV_n0 hL, LV_pT hL, LV_kT hL, er_s15 hv, VN_2 hN, VN_m hN, g1, li_0, li_1, li_2, li_3, li_4, li_5, li_6, li_7, li_8, li_9, li_10, li_11, li_12, li_13, li_14, li_15, li_16, li_17, li_18, li_19, li_20, li_21, li_22, li_23, li_24, li_25, li_26, li_27, li_28, li_29, li_30, li_31, li_32, li_33, li_34, li_35, li_36, li_37, li_38, li_39, li_40, li_41, li_42, li_43, li_44, li_45, li_48, li_57, li_59, li_61, li_63, li_64, li_65, li_72, li_90, li_97, li_99, li_101, li_102, li_103, li_104, li_105, li_108, li_109, li_111, li_114, li_115, li_116, li_117, li_118, li_120, li_121, li_122, li_216, li_240, li_255, li_256, li_380, li_400, li_480, li_511, li_512, li_729, li_1000, li_5184, li_10000, li_46656, li_65536, li_99999, li_1000000, ni_add, ni_mul, ni_sub, ni_ix, inb_t, ni_le_t, ni_le_f, ni_lt_t, ni_lt_f, ni_eq_t, ni_eq_f, ni_m1, ni_m1', ni_mn, ni_mn', Nat.add_sub_cancel, Nat.add_zero, zr_ne, zr_ni, zr_eq, gd_t, bd_s, if_true, if_false, Bool.not_true, Bool.not_false, ↓reduceIte, decide_false, decide_true]))
    · rw [show F + (k + 1) = F + 1 + k from by omega, e2 J' (F + 1), it1_s]
      exact g2 J' (it1 (lX4_goesBy_26 J') F)
/-- the noises of this minute -/
theorem e_noises {a v w n m nn nl nw : Nat} {S : sT} {P : pT} {Y I Z : zT} {J : zT → Option zT} (hR : Rel a v w S P Y I n Z m nn nl nw) : it1 (lX1_aMinute_52 S P v J) FU (enc a Y I) (nI 0) = J (enc a (snd m Y (nsn Z nn)) I) := by
  obtain ⟨⟨hv, hw, hA, h4, h5, hL, hM⟩, hn, hX, hN, hB, hC, hP, hK⟩ := id hR
  have hm4 : m ≤ 4 := hN.2.1.1
  have hn20 : nn ≤ 20 := hN.2.1.2.1
  have hl99 : nl ≤ 99 := hN.2.1.2.2.1
  have hw9 : nw ≤ 9 := hN.2.1.2.2.2
  refine it1_up (Q := fun o => o = J (enc a (snd m Y (nsn Z nn)) I)) (N := nn) (fun t I' => I' = enc a (snd m Y (nsn Z t)) I) ?_ ?_ (F := FU) (FU_lt (by omega)) (by show enc a Y I = enc a (snd m Y 0) I; rw [snd_c0])
  · rintro k t _ ht rfl
    refine ⟨_, ?_, rfl⟩
    have hRt := R_snd (c := nsn Z t) hR
    have e18 : snd m Y (nsn Z t) 18 0 = nI nn := by rw [snd_o (by omega) (by omega)]; exact (VN_18 hN).trans (VN_nn hN)
    have e16 : snd m Y (nsn Z t) 16 0 = Z 16 0 := by rw [snd_o (by omega) (by omega)]; exact VN_16 hN
    have e19 : snd m Y (nsn Z t) 19 t = Z 19 t := by rw [snd_o (by omega) (by omega)]; exact VN_19 hN ht
    have hs := e_sounds (a := a) (I := I) (Y := snd m Y (nsn Z t)) hv hL hm4 (by rw [snd_o (by omega) (by omega)]; exact (VN_2 hN).trans (VN_m hN)) (fun u hu => by rw [snd_o (by omega) (by omega)]; exact VN_65 hN hu) (fun u hu => by rw [snd_o (by omega) (by omega), VN_7 hN (by omega)]; exact MB_at hB 7 _ (by decide))
    rw [snd_add] at hs
    unfold lX1_aMinute_52
    show _ = k (enc a (snd m Y (if Z 19 t = Z 16 0 then nsn Z t + 1 else nsn Z t)) I) _
    by_cases hc : Z 19 t = Z 16 0
    · rw [if_pos hc]
      ((repeat (first | (with_reducible refine Eq.trans njE ?_; (try dsimp only)) | ((conv => lhs; arg 1; simp (maxSteps := 1000000) (disch := omega) only [LV_p5 hL, LV_k5 hL, LV_n5 hL, er_s19 hv, er_s16 hv, er_no hv, e18, e16, e19, hc, hs, li_0, li_1, li_2, li_3, li_4, li_5, li_6, li_7, li_8, li_9, li_10, li_11, li_12, li_13, li_14, li_15, li_16, li_17, li_18, li_19, li_20, li_21, li_22, li_23, li_24, li_25, li_26, li_27, li_28, li_29, li_30, li_31, li_32, li_33, li_34, li_35, li_36, li_37, li_38, li_39, li_40, li_41, li_42, li_43, li_44, li_45, li_48, li_57, li_59, li_61, li_63, li_64, li_65, li_72, li_90, li_97, li_99, li_101, li_102, li_103, li_104, li_105, li_108, li_109, li_111, li_114, li_115, li_116, li_117, li_118, li_120, li_121, li_122, li_216, li_240, li_255, li_256, li_380, li_400, li_480, li_511, li_512, li_729, li_1000, li_5184, li_10000, li_46656, li_65536, li_99999, li_1000000, ni_add, ni_mul, ni_sub, ni_ix, inb_t, ni_le_t, ni_le_f, ni_lt_t, ni_lt_f, ni_eq_t, ni_eq_f, ni_m1, ni_m1', ni_mn, ni_mn', Nat.add_sub_cancel, Nat.add_zero, zr_ne, zr_ni, zr_eq, gd_t, bd_s, if_true, if_false, Bool.not_true, Bool.not_false, ↓reduceIte, decide_false, decide_true]); (first | with_reducible refine Eq.trans gd_t ?_ | with_reducible refine Eq.trans bd_s ?_ | with_reducible refine Eq.trans bdp_s ?_ | with_reducible refine Eq.trans (if_pos trivial) ?_ | with_reducible refine Eq.trans (if_neg not_false) ?_ | with_reducible refine Eq.trans nmE ?_))));  (try simp (maxSteps := 1000000) (disch := omega) only [LV_p5 hL, LV_k5 hL, LV_n5 hL, er_s19 hv, er_s16 hv, er_no hv, e18, e16, e19, hc, hs, li_0, li_1, li_2, li_3, li_4, li_5, li_6, li_7, li_8, li_9, li_10, li_11, li_12, li_13, li_14, li_15, li_16, li_17, li_18, li_19, li_20, li_21, li_22, li_23, li_24, li_25, li_26, li_27, li_28, li_29, li_30, li_31, li_32, li_33, li_34, li_35, li_36, li_37, li_38, li_39, li_40, li_41, li_42, li_43, li_44, li_45, li_48, li_57, li_59, li_61, li_63, li_64, li_65, li_72, li_90, li_97, li_99, li_101, li_102, li_103, li_104, li_105, li_108, li_109, li_111, li_114, li_115, li_116, li_117, li_118, li_120, li_121, li_122, li_216, li_240, li_255, li_256, li_380, li_400, li_480, li_511, li_512, li_729, li_1000, li_5184, li_10000, li_46656, li_65536, li_99999, li_1000000, ni_add, ni_mul, ni_sub, ni_ix, inb_t, ni_le_t, ni_le_f, ni_lt_t, ni_lt_f, ni_eq_t, ni_eq_f, ni_m1, ni_m1', ni_mn, ni_mn', Nat.add_sub_cancel, Nat.add_zero, zr_ne, zr_ni, zr_eq, gd_t, bd_s, if_true, if_false, Bool.not_true, Bool.not_false, ↓reduceIte, decide_false, decide_true]))
    · rw [if_neg hc]
      ((repeat (first | (with_reducible refine Eq.trans njE ?_; (try dsimp only)) | ((conv => lhs; arg 1; simp (maxSteps := 1000000) (disch := omega) only [LV_p5 hL, LV_k5 hL, LV_n5 hL, er_s19 hv, er_s16 hv, er_no hv, e18, e16, e19, eq_false hc, li_0, li_1, li_2, li_3, li_4, li_5, li_6, li_7, li_8, li_9, li_10, li_11, li_12, li_13, li_14, li_15, li_16, li_17, li_18, li_19, li_20, li_21, li_22, li_23, li_24, li_25, li_26, li_27, li_28, li_29, li_30, li_31, li_32, li_33, li_34, li_35, li_36, li_37, li_38, li_39, li_40, li_41, li_42, li_43, li_44, li_45, li_48, li_57, li_59, li_61, li_63, li_64, li_65, li_72, li_90, li_97, li_99, li_101, li_102, li_103, li_104, li_105, li_108, li_109, li_111, li_114, li_115, li_116, li_117, li_118, li_120, li_121, li_122, li_216, li_240, li_255, li_256, li_380, li_400, li_480, li_511, li_512, li_729, li_1000, li_5184, li_10000, li_46656, li_65536, li_99999, li_1000000, ni_add, ni_mul, ni_sub, ni_ix, inb_t, ni_le_t, ni_le_f, ni_lt_t, ni_lt_f, ni_eq_t, ni_eq_f, ni_m1, ni_m1', ni_mn, ni_mn', Nat.add_sub_cancel, Nat.add_zero, zr_ne, zr_ni, zr_eq, gd_t, bd_s, if_true, if_false, Bool.not_true, Bool.not_false, ↓reduceIte, decide_false, decide_true]); (first | with_reducible refine Eq.trans gd_t ?_ | with_reducible refine Eq.trans bd_s ?_ | with_reducible refine Eq.trans bdp_s ?_ | with_reducible refine Eq.trans (if_pos trivial) ?_ | with_reducible refine Eq.trans (if_neg not_false) ?_ | with_reducible refine Eq.trans nmE ?_))));  (try simp (maxSteps := 1000000) (disch := omega) only [LV_p5 hL, LV_k5 hL, LV_n5 hL, er_s19 hv, er_s16 hv, er_no hv, e18, e16, e19, eq_false hc, li_0, li_1, li_2, li_3, li_4, li_5, li_6, li_7, li_8, li_9, li_10, li_11, li_12, li_13, li_14, li_15, li_16, li_17, li_18, li_19, li_20, li_21, li_22, li_23, li_24, li_25, li_26, li_27, li_28, li_29, li_30, li_31, li_32, li_33, li_34, li_35, li_36, li_37, li_38, li_39, li_40, li_41, li_42, li_43, li_44, li_45, li_48, li_57, li_59, li_61, li_63, li_64, li_65, li_72, li_90, li_97, li_99, li_101, li_102, li_103, li_104, li_105, li_108, li_109, li_111, li_114, li_115, li_116, li_117, li_118, li_120, li_121, li_122, li_216, li_240, li_255, li_256, li_380, li_400, li_480, li_511, li_512, li_729, li_1000, li_5184, li_10000, li_46656, li_65536, li_99999, li_1000000, ni_add, ni_mul, ni_sub, ni_ix, inb_t, ni_le_t, ni_le_f, ni_lt_t, ni_lt_f, ni_eq_t, ni_eq_f, ni_m1, ni_m1', ni_mn, ni_mn', Nat.add_sub_cancel, Nat.add_zero, zr_ne, zr_ni, zr_eq, gd_t, bd_s, if_true, if_false, Bool.not_true, Bool.not_false, ↓reduceIte, decide_false, decide_true]))
  · rintro k _ rfl
    have e18 : snd m Y (nsn Z nn) 18 0 = nI nn := by rw [snd_o (by omega) (by omega)]; exact (VN_18 hN).trans (VN_nn hN)
    unfold lX1_aMinute_52
    ((repeat (first | (with_reducible refine Eq.trans njE ?_; (try dsimp only)) | ((conv => lhs; arg 1; simp (maxSteps := 1000000) (disch := omega) only [er_s19 hv, e18, li_0, li_1, li_2, li_3, li_4, li_5, li_6, li_7, li_8, li_9, li_10, li_11, li_12, li_13, li_14, li_15, li_16, li_17, li_18, li_19, li_20, li_21, li_22, li_23, li_24, li_25, li_26, li_27, li_28, li_29, li_30, li_31, li_32, li_33, li_34, li_35, li_36, li_37, li_38, li_39, li_40, li_41, li_42, li_43, li_44, li_45, li_48, li_57, li_59, li_61, li_63, li_64, li_65, li_72, li_90, li_97, li_99, li_101, li_102, li_103, li_104, li_105, li_108, li_109, li_111, li_114, li_115, li_116, li_117, li_118, li_120, li_121, li_122, li_216, li_240, li_255, li_256, li_380, li_400, li_480, li_511, li_512, li_729, li_1000, li_5184, li_10000, li_46656, li_65536, li_99999, li_1000000, ni_add, ni_mul, ni_sub, ni_ix, inb_t, ni_le_t, ni_le_f, ni_lt_t, ni_lt_f, ni_eq_t, ni_eq_f, ni_m1, ni_m1', ni_mn, ni_mn', Nat.add_sub_cancel, Nat.add_zero, zr_ne, zr_ni, zr_eq, gd_t, bd_s, if_true, if_false, Bool.not_true, Bool.not_false, ↓reduceIte, decide_false, decide_true]); (first | with_reducible refine Eq.trans gd_t ?_ | with_reducible refine Eq.trans bd_s ?_ | with_reducible refine Eq.trans bdp_s ?_ | with_reducible refine Eq.trans (if_pos trivial) ?_ | with_reducible refine Eq.trans (if_neg not_false) ?_ | with_reducible refine Eq.trans nmE ?_))));  (try simp (maxSteps := 1000000) (disch := omega) only [er_s19 hv, e18, li_0, li_1, li_2, li_3, li_4, li_5, li_6, li_7, li_8, li_9, li_10, li_11, li_12, li_13, li_14, li_15, li_16, li_17, li_18, li_19, li_20, li_21, li_22, li_23, li_24, li_25, li_26, li_27, li_28, li_29, li_30, li_31, li_32, li_33, li_34, li_35, li_36, li_37, li_38, li_39, li_40, li_41, li_42, li_43, li_44, li_45, li_48, li_57, li_59, li_61, li_63, li_64, li_65, li_72, li_90, li_97, li_99, li_101, li_102, li_103, li_104, li_105, li_108, li_109, li_111, li_114, li_115, li_116, li_117, li_118, li_120, li_121, li_122, li_216, li_240, li_255, li_256, li_380, li_400, li_480, li_511, li_512, li_729, li_1000, li_5184, li_10000, li_46656, li_65536, li_99999, li_1000000, ni_add, ni_mul, ni_sub, ni_ix, inb_t, ni_le_t, ni_le_f, ni_lt_t, ni_lt_f, ni_eq_t, ni_eq_f, ni_m1, ni_m1', ni_mn, ni_mn', Nat.add_sub_cancel, Nat.add_zero, zr_ne, zr_ni, zr_eq, gd_t, bd_s, if_true, if_false, Bool.not_true, Bool.not_false, ↓reduceIte, decide_false, decide_true]))
theorem nsn_hl {m : Nat} {Z : zT} (k : Nat) : nsn (hl m 0 Z) k = nsn Z k := by
  induction k with
  | zero => rfl
  | succ k ih =>
    show (if hl m 0 Z 19 k = hl m 0 Z 16 0 then nsn (hl m 0 Z) k + 1 else nsn (hl m 0 Z) k) = (if Z 19 k = Z 16 0 then nsn Z k + 1 else nsn Z k)
    rw [ih, hl_o (by omega), hl_o (by omega)]
/-- a minute, the sun set known -/
theorem minute2 {a v w n m nn nl nw : Nat} {S : sT} {P : pT} {Y I Z : zT} {q : Nat} (hR : Rel a v w S P Y I n Z m nn nl nw) (h16 : Z 16 0 = nI q) (hq : q + 1 ≤ 99999) : ∃ Y' Z' nl',
    it1 (lX1_aMinute_26 S P v (fun I50 => nj (fun I83 => nj (fun I158 => nm (zset I158 v 16 (I158 v 16 + (1 : Int32))) fun I_2 => some I_2) fun j158 => nj (it1 (lX1_aMinute_85 S P v j158) FU) fun k85 => k85 I83 (0 : Int32)) fun j83 => nj (it1 (lX1_aMinute_52 S P v j83) FU) fun k52 => k52 I50 (0 : Int32))) FU (enc a Y I) (nI 0) = some (enc a Y' I) ∧
    it1 (lX4_goesBy_26 (fun Z100 => nj (fun Z171 => bd (fX4_sounds Z171) fun Z_2 => nm (zset Z_2 16 0 (Z_2 16 0 + (1 : Int32))) fun Z_3 => some Z_3) fun j171 => nj (it1 (lX4_goesBy_102 j171) FU) fun k102 => k102 Z100 (0 : Int32))) FU Z (nI 0) = some Z' ∧ Rel a v w S P Y' I n Z' m nn nl' nw ∧ Z' 16 0 = nI (q + 1) := by
  have hm4 : m ≤ 4 := hR.2.2.2.1.2.1.1
  have hv : v = a + 2 := hR.1.1
  have hL : LV S P v := hR.1.2.2.2.2.2.1
  obtain ⟨Yk, Zk, nlk, e1, e2, e3, e4⟩ := threes_min hR m (Nat.le_refl _)
  obtain ⟨_, _, hX3, hN3, hB3, hC3, hP3, hK3⟩ := id e3
  have h16k : Zk 16 0 = nI q := e4.trans h16
  have hRs := R_snd (c := nsn Zk nn) e3
  have hRh := R_hl (t := m) hm4 hRs
  have z16 : hl m 0 (snd m Zk (nsn Zk nn)) 16 0 = nI q := by rw [hl_o (by omega), snd_o (by omega) (by omega)]; exact h16k
  have y16 : hl m 0 (snd m Yk (nsn Zk nn)) 16 0 = nI q := (VN_16 hRh.2.2.2.1).trans z16
  have hRf := R_p (f := 16) (i := 0) (x := nI (q + 1)) rfl (fun h => absurd h (by decide)) (Or.inr ⟨q + 1, hq, rfl⟩) hRh
  have ef : 999999999999 - m + 1 + m = FU := by show _ = 1000000000000; omega
  have e1' := fun J => e1 J (999999999999 - m + 1)
  have e2' := fun J => e2 J (999999999999 - m + 1)
  rw [ef] at e1' e2'
  refine ⟨_, _, nlk, ?_, ?_, hRf, zr_eq⟩
  · rw [e1', it1_s]
    unfold lX1_aMinute_26
    rw [if_pos (by rw [er_s15 hv, VN_2 hN3, VN_m hN3]; exact nI_le (Nat.le_refl _) (by omega))]
    simp only [njE]
    refine Eq.trans (e_noises e3) ?_
    refine Eq.trans (e_held hv hL hm4 ((VN_2 hRs.2.2.2.1).trans (VN_m hRs.2.2.2.1)) (fun u hu => VN_65 hRs.2.2.2.1 hu) (fun i hi => by rw [VN_7 hRs.2.2.2.1 hi]; exact MB_at hRs.2.2.2.2.1 7 _ (by decide))) ?_
    simp (maxSteps := 1000000) (disch := omega) only [nmE, er_s16 hv, ew_s16 hv, y16, li_0, li_1, li_2, li_3, li_4, li_5, li_6, li_7, li_8, li_9, li_10, li_11, li_12, li_13, li_14, li_15, li_16, li_17, li_18, li_19, li_20, li_21, li_22, li_23, li_24, li_25, li_26, li_27, li_28, li_29, li_30, li_31, li_32, li_33, li_34, li_35, li_36, li_37, li_38, li_39, li_40, li_41, li_42, li_43, li_44, li_45, li_48, li_57, li_59, li_61, li_63, li_64, li_65, li_72, li_90, li_97, li_99, li_101, li_102, li_103, li_104, li_105, li_108, li_109, li_111, li_114, li_115, li_116, li_117, li_118, li_120, li_121, li_122, li_216, li_240, li_255, li_256, li_380, li_400, li_480, li_511, li_512, li_729, li_1000, li_5184, li_10000, li_46656, li_65536, li_99999, li_1000000, ni_add, ni_mul, ni_sub, ni_ix, inb_t, ni_le_t, ni_le_f, ni_lt_t, ni_lt_f, ni_eq_t, ni_eq_f, ni_m1, ni_m1', ni_mn, ni_mn', Nat.add_sub_cancel, Nat.add_zero, zr_ne, zr_ni, zr_eq, gd_t, bd_s, if_true, if_false, Bool.not_true, Bool.not_false, ↓reduceIte, decide_false, decide_true]
  · rw [e2', it1_s]
    unfold lX4_goesBy_26
    rw [if_pos (by rw [VN_m hN3]; exact nI_le (Nat.le_refl _) (by omega))]
    simp only [njE]
    refine Eq.trans (m_held hm4 (VN_m hN3) (fun i _ => MB_at hB3 7 i (by decide))) ?_
    have hRh2 := R_hl (t := m) hm4 e3
    have hsn : nsn (hl m 0 Zk) nn = nsn Zk nn := nsn_hl nn
    rw [m_sounds hm4 hN3.2.1.2.1 (VN_nn hRh2.2.2.2.1) (VN_m hRh2.2.2.2.1) (fun u hu => MB_at hRh2.2.2.2.2.1 7 _ (by decide)), hsn, ← hl_snd]
    simp (maxSteps := 1000000) (disch := omega) only [nmE, z16, li_0, li_1, li_2, li_3, li_4, li_5, li_6, li_7, li_8, li_9, li_10, li_11, li_12, li_13, li_14, li_15, li_16, li_17, li_18, li_19, li_20, li_21, li_22, li_23, li_24, li_25, li_26, li_27, li_28, li_29, li_30, li_31, li_32, li_33, li_34, li_35, li_36, li_37, li_38, li_39, li_40, li_41, li_42, li_43, li_44, li_45, li_48, li_57, li_59, li_61, li_63, li_64, li_65, li_72, li_90, li_97, li_99, li_101, li_102, li_103, li_104, li_105, li_108, li_109, li_111, li_114, li_115, li_116, li_117, li_118, li_120, li_121, li_122, li_216, li_240, li_255, li_256, li_380, li_400, li_480, li_511, li_512, li_729, li_1000, li_5184, li_10000, li_46656, li_65536, li_99999, li_1000000, ni_add, ni_mul, ni_sub, ni_ix, inb_t, ni_le_t, ni_le_f, ni_lt_t, ni_lt_f, ni_eq_t, ni_eq_f, ni_m1, ni_m1', ni_mn, ni_mn', Nat.add_sub_cancel, Nat.add_zero, zr_ne, zr_ni, zr_eq, gd_t, bd_s, if_true, if_false, Bool.not_true, Bool.not_false, ↓reduceIte, decide_false, decide_true]
/-- a minute -/
theorem a_minute {a v w n m nn nl nw : Nat} {S : sT} {P : pT} {Y I Z : zT} {q : Nat} (hR : Rel a v w S P Y I n Z m nn nl nw) (h16 : Z 16 0 = nI q) (hq : q + 1 ≤ 99999) : ∃ Y' Z' nl', fX1_aMinute S P (enc a Y I) v = some (enc a Y' I) ∧ fX4_goesBy Z = some Z' ∧ Rel a v w S P Y' I n Z' m nn nl' nw ∧ Z' 16 0 = nI (q + 1) := by
  obtain ⟨⟨hv, hw, hA, h4, h5, hL, hM⟩, hn, hX, hN, hB, hC, hP, hK⟩ := id hR
  have hm4 : m ≤ 4 := hN.2.1.1
  have hn20 : nn ≤ 20 := hN.2.1.2.1
  have hl99 : nl ≤ 99 := hN.2.1.2.2.1
  have hw9 : nw ≤ 9 := hN.2.1.2.2.2
  have y16 : Y 16 0 = nI q := (VN_16 hN).trans h16
  have y1 : Y 1 0 = Z 1 0 := VN_1 hN
  by_cases hd : q % 240 = 0
  · obtain ⟨r, hr, er⟩ := dr_lt (Z 1 0) (k := 61) (by omega) (by omega)
    have hR2 := R_p (f := 17) (i := 0) (x := nI (120 + r)) rfl (fun h => absurd h (by decide)) (Or.inl rfl) (R_p (f := 1) (i := 0) (x := nx (Z 1 0)) rfl (fun h => absurd h (by decide)) (Or.inl rfl) hR)
    obtain ⟨Y', Z', nl', g1, g2, g3, g4⟩ := minute2 hR2 (show _ = nI q by rw [zr_ne (by omega), zr_ne (by omega)]; exact h16) hq
    refine ⟨Y', Z', nl', Eq.trans ?_ g1, Eq.trans ?_ g2, g3, g4⟩
    · unfold fX1_aMinute
      rw [gd_of (LV_kv hL), njE, er_s16 hv, y16, show (240 : Int32) = nI 240 from rfl, ni_rem (by omega) (by omega) (by omega), hd, if_pos (show nI 0 = (0 : Int32) from rfl), show (61 : Int32) = nI 61 from rfl, e_draw hv hL (by omega) (by omega), bdp_s, y1, er, show (120 : Int32) = nI 120 from rfl, ni_add, nmE, ew_s20 hv]
      rfl
    · unfold fX4_goesBy
      rw [njE, h16, show (240 : Int32) = nI 240 from rfl, ni_rem (by omega) (by omega) (by omega), hd, if_pos (show nI 0 = (0 : Int32) from rfl), show (61 : Int32) = nI 61 from rfl, m_draw (by omega) (by omega), bdp_s, er, show (120 : Int32) = nI 120 from rfl, ni_add, nmE]
      rfl
  · obtain ⟨Y', Z', nl', g1, g2, g3, g4⟩ := minute2 hR h16 hq
    refine ⟨Y', Z', nl', Eq.trans ?_ g1, Eq.trans ?_ g2, g3, g4⟩
    · unfold fX1_aMinute
      rw [gd_of (LV_kv hL), njE, er_s16 hv, y16, show (240 : Int32) = nI 240 from rfl, ni_rem (by omega) (by omega) (by omega), if_neg (show ¬ nI (q % 240) = (0 : Int32) from ni_ne (q := 0) hd (by omega) (by omega))]
      rfl
    · unfold fX4_goesBy
      rw [njE, h16, show (240 : Int32) = nI 240 from rfl, ni_rem (by omega) (by omega) (by omega), if_neg (show ¬ nI (q % 240) = (0 : Int32) from ni_ne (q := 0) hd (by omega) (by omega))]
      rfl
/-- minutes go by -/
theorem many_min {a v w n m nn nl nw : Nat} {S : sT} {P : pT} {Y I Z : zT} {q : Nat} (hR : Rel a v w S P Y I n Z m nn nl nw) (h16 : Z 16 0 = nI q) : ∀ k, q + k ≤ 99999 → ∃ Yk Zk nlk, Rel a v w S P Yk I n Zk m nn nlk nw ∧ Zk 16 0 = nI (q + k) ∧ (∀ (x : Int32) (J : zT → Option (Int32 × zT)) F, (∀ i, i < k → ¬ x ≤ nI i) → it1 (lX0_minutes_29 S P x v J) (F + k) (enc a Y I) (nI 0) = it1 (lX0_minutes_29 S P x v J) F (enc a Yk I) (nI k)) ∧ (∀ (x : Int32) (J : zT → Option (Int32 × zT)) F, (∀ i, i < k → ¬ x ≤ nI i) → it1 (lX4_minutes_33 x J) (F + k) Z (nI 0) = it1 (lX4_minutes_33 x J) F Zk (nI k)) := by
  intro k
  induction k with
  | zero => intro _; exact ⟨Y, Z, nl, hR, h16, fun _ _ _ _ => rfl, fun _ _ _ _ => rfl⟩
  | succ k ih =>
    intro hk
    obtain ⟨Yk, Zk, nlk, e1, e2, e3, e4⟩ := ih (by omega)
    obtain ⟨Y', Z', nl', g1, g2, g3, g4⟩ := a_minute e1 e2 (by omega)
    refine ⟨Y', Z', nl', g3, g4, fun x J F hx => ?_, fun x J F hx => ?_⟩
    · rw [show F + (k + 1) = F + 1 + k from by omega, e3 x J (F + 1) (fun i hi => hx i (by omega)), it1_s]
      refine Eq.trans (if_neg (hx k (by omega))) ?_
      rw [g1, bd_s, nmE, show nI k + (1 : Int32) = nI (k + 1) from nI_1 k]
    · rw [show F + (k + 1) = F + 1 + k from by omega, e4 x J (F + 1) (fun i hi => hx i (by omega)), it1_s]
      refine Eq.trans (if_neg (hx k (by omega))) ?_
      rw [g2, bd_s, nmE, show nI k + (1 : Int32) = nI (k + 1) from nI_1 k]
theorem op_minutes {a v w n m nn nl nw : Nat} {S : sT} {P : pT} {Y I Z : zT} (hR0 : Rel a v w S P Y I n Z m nn nl nw) (x : Int32) : Op a v w S P I n (fX0_minutes S P (enc a Y I) a x) (fX4_minutes Z x) := by
  have hR := R_z (f := 0) (i := 0) (x := (0 : Int32)) rfl hR0
  unfold fX4_minutes
  generalize zset Z 0 0 (0 : Int32) = Z1 at hR ⊢
  clear hR0
  obtain ⟨⟨hv, hw, hA, h4, h5, hL, hM⟩, hn, hX, hN, hB, hC, hP, hK⟩ := id hR
  have hm4 : m ≤ 4 := hN.2.1.1
  have hn20 : nn ≤ 20 := hN.2.1.2.1
  have hl99 : nl ≤ 99 := hN.2.1.2.2.1
  have hw9 : nw ≤ 9 := hN.2.1.2.2.2
  obtain ⟨q, hq, eq⟩ := MB_at hB 16 0 (by decide)
  have hq : q ≤ 99999 := hq
  have eqY : Y 16 0 = nI q := (VN_16 hN).trans eq
  rcases rng x 1 1000 (by omega) (by omega) with ⟨j, h1, h2, rfl⟩ | h
  · by_cases hc : q + j ≤ 99999
    · obtain ⟨Yk, Zk, nlk, e1, e2, e3, e4⟩ := many_min hR eq j hc
      have hx : ∀ i, i < j → ¬ nI j ≤ nI i := fun i hi => nI_ge hi (by omega)
      have ef : 999999999999 - j + 1 + j = FU := by show _ = 1000000000000; omega
      have e3' := fun J => e3 (nI j) J (999999999999 - j + 1) hx
      have e4' := fun J => e4 (nI j) J (999999999999 - j + 1) hx
      rw [ef] at e3' e4'
      have y16 : Yk 16 0 = nI (q + j) := (VN_16 e1.2.2.2.1).trans e2
      refine ⟨nI (q + j), Yk, Zk, m, nn, nlk, nw, ?_, ?_, e1⟩
      · unfold fX0_minutes
        rw [show (1 : Int32) = nI 1 from rfl, show (1000 : Int32) = nI 1000 from rfl, rin_t h1 h2 (by omega), bd_s, if_neg (by decide), gd_of (LA_ka hA), h4, bd_s, gd_of (LV_kv hL), er_s16 hv, eqY, ni_add, if_pos (show nI (q + j) ≤ (99999 : Int32) from nI_le (b := 99999) hc (by omega)), njE, njE]
        refine Eq.trans (e3' _) ?_
        rw [it1_s]
        refine Eq.trans (if_pos (nI_le (Nat.le_refl _) (by omega))) ?_
        show some (enc a Yk I v 16, enc a Yk I) = _
        rw [er_s16 hv, y16]
      · rw [nmE, show (1 : Int32) = nI 1 from rfl, show (1000 : Int32) = nI 1000 from rfl, rin4_t h1 h2 (by omega), bd_s, if_neg (by decide), eq, ni_add, if_pos (show nI (q + j) ≤ (99999 : Int32) from nI_le (b := 99999) hc (by omega)), njE, njE]
        refine Eq.trans (e4' _) ?_
        rw [it1_s]
        refine Eq.trans (if_pos (nI_le (Nat.le_refl _) (by omega))) ?_
        show some (Zk 16 0, Zk) = _
        rw [e2]
    · refine ⟨-1, Y, Z1, m, nn, nl, nw, ?_, ?_, hR⟩
      · simp (maxSteps := 1000000) (disch := omega) only [fX0_minutes, rin_t h1 h2 (show 1000 < 2147483648 by omega), eqY, LA_ka hA, h4, LV_kv hL, er_s16 hv, gd_t, bd_s, bdp_s, nmE, njE, if_true, if_false, Bool.not_true, Bool.not_false, li_0, li_1, li_2, li_3, li_4, li_5, li_6, li_7, li_8, li_9, li_10, li_11, li_12, li_13, li_14, li_15, li_16, li_17, li_18, li_19, li_20, li_21, li_22, li_23, li_24, li_25, li_26, li_27, li_28, li_29, li_30, li_31, li_32, li_33, li_34, li_35, li_36, li_37, li_38, li_39, li_40, li_41, li_42, li_43, li_44, li_45, li_48, li_57, li_59, li_61, li_63, li_64, li_65, li_72, li_90, li_97, li_99, li_101, li_102, li_103, li_104, li_105, li_108, li_109, li_111, li_114, li_115, li_116, li_117, li_118, li_120, li_121, li_122, li_216, li_240, li_255, li_256, li_380, li_400, li_480, li_511, li_512, li_729, li_1000, li_5184, li_10000, li_46656, li_65536, li_99999, li_1000000, ni_add, ni_mul, ni_sub, ni_ix, inb_t, ni_le_t, ni_le_f, ni_lt_t, ni_lt_f, ni_eq_t, ni_eq_f, ni_m1, ni_m1', ni_mn, ni_mn', Nat.add_sub_cancel, Nat.add_zero]
      · simp (maxSteps := 1000000) (disch := omega) only [rin4_t h1 h2 (show 1000 < 2147483648 by omega), eq, li_0, li_1, li_2, li_3, li_4, li_5, li_6, li_7, li_8, li_9, li_10, li_11, li_12, li_13, li_14, li_15, li_16, li_17, li_18, li_19, li_20, li_21, li_22, li_23, li_24, li_25, li_26, li_27, li_28, li_29, li_30, li_31, li_32, li_33, li_34, li_35, li_36, li_37, li_38, li_39, li_40, li_41, li_42, li_43, li_44, li_45, li_48, li_57, li_59, li_61, li_63, li_64, li_65, li_72, li_90, li_97, li_99, li_101, li_102, li_103, li_104, li_105, li_108, li_109, li_111, li_114, li_115, li_116, li_117, li_118, li_120, li_121, li_122, li_216, li_240, li_255, li_256, li_380, li_400, li_480, li_511, li_512, li_729, li_1000, li_5184, li_10000, li_46656, li_65536, li_99999, li_1000000, ni_add, ni_mul, ni_sub, ni_ix, inb_t, ni_le_t, ni_le_f, ni_lt_t, ni_lt_f, ni_eq_t, ni_eq_f, ni_m1, ni_m1', ni_mn, ni_mn', Nat.add_sub_cancel, Nat.add_zero, gd_t, bd_s, bdp_s, nmE, njE, if_true, if_false, Bool.not_true, Bool.not_false, zr_ne, zr_ni, zr_eq, VN_m hN, VN_nn hN, VN_nl hN, VN_nw hN]
  · refine ⟨-1, Y, Z1, m, nn, nl, nw, ?_, ?_, hR⟩
    · simp (maxSteps := 1000000) (disch := omega) only [fX0_minutes, in_f h, gd_t, bd_s, bdp_s, nmE, njE, if_true, if_false, Bool.not_true, Bool.not_false, li_0, li_1, li_2, li_3, li_4, li_5, li_6, li_7, li_8, li_9, li_10, li_11, li_12, li_13, li_14, li_15, li_16, li_17, li_18, li_19, li_20, li_21, li_22, li_23, li_24, li_25, li_26, li_27, li_28, li_29, li_30, li_31, li_32, li_33, li_34, li_35, li_36, li_37, li_38, li_39, li_40, li_41, li_42, li_43, li_44, li_45, li_48, li_57, li_59, li_61, li_63, li_64, li_65, li_72, li_90, li_97, li_99, li_101, li_102, li_103, li_104, li_105, li_108, li_109, li_111, li_114, li_115, li_116, li_117, li_118, li_120, li_121, li_122, li_216, li_240, li_255, li_256, li_380, li_400, li_480, li_511, li_512, li_729, li_1000, li_5184, li_10000, li_46656, li_65536, li_99999, li_1000000, ni_add, ni_mul, ni_sub, ni_ix, inb_t, ni_le_t, ni_le_f, ni_lt_t, ni_lt_f, ni_eq_t, ni_eq_f, ni_m1, ni_m1', ni_mn, ni_mn', Nat.add_sub_cancel, Nat.add_zero]
    · simp (maxSteps := 1000000) (disch := omega) only [in4_f h, li_0, li_1, li_2, li_3, li_4, li_5, li_6, li_7, li_8, li_9, li_10, li_11, li_12, li_13, li_14, li_15, li_16, li_17, li_18, li_19, li_20, li_21, li_22, li_23, li_24, li_25, li_26, li_27, li_28, li_29, li_30, li_31, li_32, li_33, li_34, li_35, li_36, li_37, li_38, li_39, li_40, li_41, li_42, li_43, li_44, li_45, li_48, li_57, li_59, li_61, li_63, li_64, li_65, li_72, li_90, li_97, li_99, li_101, li_102, li_103, li_104, li_105, li_108, li_109, li_111, li_114, li_115, li_116, li_117, li_118, li_120, li_121, li_122, li_216, li_240, li_255, li_256, li_380, li_400, li_480, li_511, li_512, li_729, li_1000, li_5184, li_10000, li_46656, li_65536, li_99999, li_1000000, ni_add, ni_mul, ni_sub, ni_ix, inb_t, ni_le_t, ni_le_f, ni_lt_t, ni_lt_f, ni_eq_t, ni_eq_f, ni_m1, ni_m1', ni_mn, ni_mn', Nat.add_sub_cancel, Nat.add_zero, gd_t, bd_s, bdp_s, nmE, njE, if_true, if_false, Bool.not_true, Bool.not_false, zr_ne, zr_ni, zr_eq, VN_m hN, VN_nn hN, VN_nl hN, VN_nw hN]
