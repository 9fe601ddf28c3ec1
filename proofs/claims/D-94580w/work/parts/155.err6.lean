/-! LAYER 2: errands: the operation -/
theorem kn_tb {Z : zT} {t f j k : Nat} (hj : j < k) : (kn Z t f k).testBit j = true ↔ ¬ ix (Z 9 (10 * (3 * t + j) + f)) = 0 := by
  unfold kn
  rw [orf_tb]
  constructor
  · rintro ⟨i, _, h, rfl⟩ c
    rw [decide_eq_true c] at h
    cases h
  · intro h
    exact ⟨j, hj, by rw [decide_eq_false h]; rfl, rfl⟩
theorem plf_3 {Z : zT} {t : Nat} : plf Z t 3 = 9 * stl Z t 0 + 3 * stl Z t 1 + stl Z t 2 := by
  show 3 * (3 * (3 * 0 + stl Z t 0) + stl Z t 1) + stl Z t 2 = _
  omega
theorem n10 : ¬ nI 1 = (0 : Int32) := by decide
theorem z00 : nI 0 = (0 : Int32) := rfl
theorem op_errand {a v w n m nn nl nw : Nat} {S : sT} {P : pT} {Y I Z : zT} (hR0 : Rel a v w S P Y I n Z m nn nl nw) (x y z o : Int32) : Op a v w S P I n (fX0_errand S P (enc a Y I) a x y z o) (fX4_errand Z x y z o) := by
  have hR := R_z (f := 0) (i := 0) (x := (0 : Int32)) rfl hR0
  unfold fX4_errand
  generalize zset Z 0 0 (0 : Int32) = Z1 at hR ⊢
  clear hR0
  obtain ⟨⟨hv, hw, hA, h4, h5, hL, hM⟩, hn, hX, hN, hB, hC, hP, hK⟩ := id hR
  have hm4 : m ≤ 4 := hN.2.1.1
  have hn20 : nn ≤ 20 := hN.2.1.2.1
  have hl99 : nl ≤ 99 := hN.2.1.2.2.1
  have hw9 : nw ≤ 9 := hN.2.1.2.2.2
  have hin : ∀ x lo hi, fX4_isIn Z1 x lo hi = fX0_isIn x lo hi := fun _ _ _ => rfl
  have hm31 : m < 2147483648 := by omega
  rw [nmE]
  unfold fX0_errand
  rw [gd_of (LA_ka hA)]
  have hno : ∀ (o1 : Option (Int32 × zT)) (o2 : Option (Int32 × zT)), o1 = some ((-1 : Int32), enc a Y I) → o2 = some ((-1 : Int32), Z1) → Op a v w S P I n o1 o2 := fun o1 o2 h1 h2 => ⟨-1, Y, Z1, m, nn, nl, nw, h1, h2, hR⟩
  rcases inb_c x m hm31 with ⟨t, ht, rfl⟩ | hx
  · rw [c_three_t hR ht, bd_s, if_neg n10, c4_three_t (VN_m hN) ht hm31, bd_s, if_neg n10]
    have ht4 : t < 4 := by omega
    rcases inb_c z m hm31 with ⟨u, hu, rfl⟩ | hz
    · rw [c_three_t hR hu, bd_s, if_neg n10]
      have hu4 : u < 4 := by omega
      rcases inb_c y 10 (by omega) with ⟨f, hf, rfl⟩ | hy
      · rw [c_fact_t hf, bd_s, if_neg n10, c4_fact_t hf, bd_s, if_neg n10, c4_three_t (VN_m hN) hu hm31, bd_s, if_neg n10]
        by_cases htu : t = u
        · exact hno _ _ (if_pos (congrArg nI htu)) (if_pos (congrArg nI htu))
        · rw [if_neg (ni_ne htu (by omega) (by omega)), if_neg (ni_ne htu (by omega) (by omega)), hin]
          rcases inb_c o 2 (by omega) with ⟨q, hq, rfl⟩ | ho
          · rw [show fX0_isIn (nI q) (0 : Int32) (1 : Int32) = some (nI 1) from rin_t (lo := 0) (hi := 1) (by omega) (by omega) (by omega), bd_s, bd_s, if_neg n10, if_neg n10]
            have s0 := stl_lt hB hC hu4 (show 0 < 3 by omega)
            have s1 := stl_lt hB hC hu4 (show 1 < 3 by omega)
            have s2 := stl_lt hB hC hu4 (show 2 < 3 by omega)
            have hp27 : plf Z1 u 3 < 27 := plf_le hB hC hu4 (Nat.le_refl 3)
            have hmb : mb (plf Z1 u 3) 1 = stl Z1 u 1 := by
              rw [plf_3]
              show (9 * stl Z1 u 0 + 3 * stl Z1 u 1 + stl Z1 u 2) / 3 % 3 = _
              omega
            have hkn8 : kn Z1 u f 3 < 2 ^ 3 := kn_lt
            have tb := tb_i (a := kn Z1 u f 3) (k := stl Z1 u 1) (by omega) (by omega)
            obtain ⟨q9, g9, e9⟩ := MB_at hB 9 (10 * (3 * u + stl Z1 u 1) + f) (by decide)
            have g9 : q9 ≤ 2 := g9
            have hkt := kn_tb (Z := Z1) (t := u) (f := f) (j := stl Z1 u 1) (k := 3) s1
            rw [e9, ni_ix (show q9 < 2147483648 by omega)] at hkt
            have hper := e_person (I := I) (x := nI (stl Z1 u 1)) hv hL hu4 (VN_65 hN hu4)
            rw [ni_add] at hper
            have hpl : 3 * u + stl Z1 u 1 < 12 := by omega
            have ey9 : Y 9 (10 * (3 * u + stl Z1 u 1) + f) = nI q9 := (VN_9 hN (by omega)).trans e9
            rw [h4, bd_s, gd_of (LV_kv hL), LV_p0 hL, bd_s, gd_of (LV_k0 hL), LV_n0 hL, gd_of (inb_t hu4 (by omega)), ni_ix (show u < 2147483648 by omega), LV_pT hL hu4, bd_s, LV_p1 hL, bd_s, gd_of (LV_kT hL hu4), show fX2_settled S P (enc a Y I) (aT v u) (1 : Int32) = some (nI (stl Z1 u 1)) from e_settled (k := 1) hR hu4 (by omega), bd_s, hper, bd_s, gd_of (LV_k1 hL), LV_n1 hL, gd_of (inb_t hpl (by omega)), ni_ix (show 3 * u + stl Z1 u 1 < 2147483648 by omega), LV_pK hL hpl, bd_s, gd_of (LV_kK hL hpl), LV_nK hL hpl, gd_of (inb_t hf (by omega)), ni_ix (show f < 2147483648 by omega), er_kn hv hpl hf, ey9, gd_of (inb_t ht4 (by omega)), ni_ix (show t < 2147483648 by omega), LV_pT hL ht4, bd_s]
            rw [m_known hB hu4 hf, bd_s, m_places hB hC hu4, bd_s, show fX4_memberOf Z1 (nI (plf Z1 u 3)) (1 : Int32) = some (nI (stl Z1 u 1)) from (m_mem (k := 1) hp27 (by omega)).trans (by rw [hmb]), bd_s, show jsr (nI (kn Z1 u f 3)) (nI (stl Z1 u 1)) &&& (1 : Int32) = _ from tb]
            by_cases c : q9 = 0
            · have hnt : ¬ (kn Z1 u f 3).testBit (stl Z1 u 1) = true := fun g => hkt.mp g c
              rw [if_pos (by rw [c]; decide), if_neg hnt, if_neg (show ¬ nI 0 = (1 : Int32) from by decide)]
              obtain ⟨h, gh, eh⟩ := MB_at hB 3 t (by decide)
              have gh : h ≤ 9 := gh
              have h1 : 1 ≤ h := by
                have := hC.2.2.2.2.2.1 t ht
                rw [eh] at this
                refine Nat.pos_of_ne_zero ?_
                rintro rfl
                exact this rfl
              have eY3 : Y 3 t = nI h := (VN_3 hN ht4).trans eh
              rcases (show q = 0 ∨ q = 1 by omega) with rfl | rfl
              · obtain ⟨Y', y1, y2⟩ := e_errandBy (u := 1) (h := h) hR ht4 hf h1 gh (by omega)
                obtain ⟨z', z1, z2⟩ := m_finds (u := 1) (h := h) hB hC ht4 hf h1 gh (by omega)
                have hRy : Rel a v w S P Y' I n Z1 m nn nl nw := R_yy (fun g hg => y1 g (by omega) (by omega)) hR
                refine ⟨nI (vk h 1 (kd (est Z1 t f)) + 1), Y', z', m, nn, nl, nw, ?_, ?_, R_zz (fun g hg => z1 g (by rintro rfl; exact absurd hg (by decide)) (by rintro rfl; exact absurd hg (by decide))) hRy⟩
                · rw [if_pos (show nI 0 = (0 : Int32) from rfl), gd_of (LV_kT hL ht4), er_t3 hv ht4, eY3, show fX0_errandBy S P (enc a Y I) a (aT v t) (nI f) (nI h) (1 : Int32) = _ from y2, bdp_s]
                · rw [if_pos (show nI 0 = (0 : Int32) from rfl), gd_of (inb_t ht4 (by omega)), eh, show fX4_findsErrand Z1 (nI t) (nI f) (nI h) (1 : Int32) = _ from z2, bdp_s]
              · obtain ⟨Y', y1, y2⟩ := e_errandBy (u := 0) (h := 1) hR ht4 hf (by omega) (by omega) (by omega)
                obtain ⟨z', z1, z2⟩ := m_finds (u := 0) (h := 1) hB hC ht4 hf (by omega) (by omega) (by omega)
                have hRy : Rel a v w S P Y' I n Z1 m nn nl nw := R_yy (fun g hg => y1 g (by omega) (by omega)) hR
                refine ⟨nI (vk 1 0 (kd (est Z1 t f)) + 0), Y', z', m, nn, nl, nw, ?_, ?_, R_zz (fun g hg => z1 g (by rintro rfl; exact absurd hg (by decide)) (by rintro rfl; exact absurd hg (by decide))) hRy⟩
                · rw [if_neg (show ¬ nI 1 = (0 : Int32) from by decide), show fX0_errandBy S P (enc a Y I) a (aT v t) (nI f) (1 : Int32) (0 : Int32) = _ from y2, bdp_s]
                · rw [if_neg (show ¬ nI 1 = (0 : Int32) from by decide), show fX4_findsErrand Z1 (nI t) (nI f) (1 : Int32) (0 : Int32) = _ from z2, bdp_s]
            · have hnt : (kn Z1 u f 3).testBit (stl Z1 u 1) = true := hkt.mpr c
              rw [if_neg (show ¬ nI q9 ≤ (0 : Int32) from nI_ge (show 0 < q9 by omega) (by omega)), if_pos hnt, if_pos (show nI 1 = (1 : Int32) from rfl)]
              exact ⟨0, Y, Z1, m, nn, nl, nw, rfl, rfl, hR⟩
          · have ho' : fX0_isIn o (0 : Int32) (1 : Int32) = some (nI 0) := in0_f (m := 1) ho (by omega)
            rw [ho', bd_s, bd_s]
            exact hno _ _ (if_pos z00) (if_pos z00)
      · rw [c_fact_f hy, bd_s, c4_fact_f hy, bd_s]
        by_cases htu : nI t = nI u
        · exact hno _ _ (if_pos htu) (if_pos z00)
        · refine hno _ _ ?_ (if_pos z00)
          rw [if_neg htu]
          exact if_pos z00
    · rw [c_three_f hR hz, bd_s]
      refine hno _ _ (if_pos z00) ?_
      rcases inb_c y 10 (by omega) with ⟨f, hf, rfl⟩ | hy
      · rw [c4_fact_t hf, bd_s, if_neg n10, c4_three_f (VN_m hN) hz hm31, bd_s]
        exact if_pos z00
      · rw [c4_fact_f hy, bd_s]
        exact if_pos z00
  · rw [c_three_f hR hx, bd_s, c4_three_f (VN_m hN) hx hm31, bd_s]
    exact hno _ _ (if_pos z00) (if_pos z00)
