/-! LAYER 2: the way: the operation -/
theorem mno_ex {D : Nat → Nat → Nat} {c d i s : Nat} (hD : ∀ i s, D i s ≤ 27) (hc : c ≤ 9) (hd : d ≤ 11) : ∃ o', 0 ≤ o' ∧ o' < 0 + 27 ∧ wf D c d i s o' = mno (wf D c d i s) 27 := by
  obtain ⟨o, h1, h2⟩ := mno_at (f := wf D c d i s) (k := 27) (by omega) (fun o _ => by have := wf_lt (i := i) (s := s) (o := o) hD hc hd; omega)
  exact ⟨o, by omega, by omega, h2⟩
theorem e_walk {a v w n m nn nl nw : Nat} {S : sT} {P : pT} {Y I Z : zT} {N c K : Nat} (hR : Rel a v w S P Y I n Z m nn nl nw) (hc : c ≤ 9) (hN1 : 1 ≤ N) (hN12 : N ≤ 12) (hK : K < N) (ht : ∀ r, r < N → ∀ o, o < 27 → Y 213 (27 * r + o) = nI (wst (fun i s => dnk Z i s 3) c (N - 1 - r) r o)) :
    it1 (lX0_way_223 S P a (nI c) (nI (10 + K)) (enc a Y I)) FU (nI (atk (fun i s => dnk Z i s 3) c N 0)) (nI 1) = some (nI (atk (fun i s => dnk Z i s 3) c N K), enc a Y I) ∧ atk (fun i s => dnk Z i s 3) c N K < 27 := by
  obtain ⟨⟨hv, hw, hA, h4, h5, hL, hM⟩, hn, hX, hN, hB, hC, hP, hK⟩ := id hR
  have hm4 : m ≤ 4 := hN.2.1.1
  have hn20 : nn ≤ 20 := hN.2.1.2.1
  have hl99 : nl ≤ 99 := hN.2.1.2.2.1
  have hw9 : nw ≤ 9 := hN.2.1.2.2.2
  have hD : ∀ i s, (fun i s => dnk Z i s 3) i s ≤ 27 := fun i s => dnk_le hB i s 3
  have hstep : ∀ k, k < K → atk (fun i s => dnk Z i s 3) c N k < 27 → atk (fun i s => dnk Z i s 3) c N (k + 1) < 27 ∧ ∀ kk : Int32 → Int32 → Option (Int32 × zT), lX0_way_223 S P a (nI c) (nI (10 + K)) (enc a Y I) kk (nI (atk (fun i s => dnk Z i s 3) c N k)) (nI (k + 1)) = kk (nI (atk (fun i s => dnk Z i s 3) c N (k + 1))) (nI (k + 2)) := by
    intro k hk h27
    have hf := fun J => e_find (J := J) (d := N - 2 - k) (k := k) hR hc (by omega) (by omega) h27 (fun o ho => by
      have := ht (k + 1) (by omega) o ho
      rwa [show N - 1 - (k + 1) = N - 2 - k from by omega] at this) (by
      have := ht k (by omega) _ h27
      rwa [show N - 1 - k = (N - 2 - k) + 1 from by omega] at this) 27 0 (by omega) (mno_ex hD hc (by omega))
    refine ⟨(hf (fun _ => none)).1, fun kk => ?_⟩
    unfold lX0_way_223
    rw [if_neg (show ¬ nI (10 + K) - (10 : Int32) < nI (k + 1) from by rw [show nI (10 + K) - (10 : Int32) = nI K from by rw [show (10 : Int32) = nI 10 from rfl, ni_sub (by omega), Nat.add_sub_cancel_left]]; exact nI_nlt (by omega) (by omega)), njE, njE]
    refine Eq.trans ((hf _).2 (999999999973)) ?_
    rw [nmE, show nI (k + 1) + (1 : Int32) = nI (k + 2) from nI_1 (k + 1)]
    rfl
  have h0 : atk (fun i s => dnk Z i s 3) c N 0 < 27 := Nat.lt_of_le_of_lt (agm_le _ 26) (by omega)
  have hall : ∀ k, k ≤ K → atk (fun i s => dnk Z i s 3) c N k < 27 := by
    intro k
    induction k with
    | zero => intro _; exact h0
    | succ k ih => intro hk; exact (hstep k (by omega) (ih (by omega))).1
  refine ⟨?_, hall K (Nat.le_refl _)⟩
  refine it1_fr (Q := fun o => o = some (nI (atk (fun i s => dnk Z i s 3) c N K), enc a Y I)) (N := K + 1) (i0 := 1) (fun k x => x = nI (atk (fun i s => dnk Z i s 3) c N (k - 1))) ?_ ?_ (by omega) (FU_lt (by omega)) rfl
  · rintro kk k _ hk1 hk rfl
    obtain ⟨k, rfl⟩ : ∃ q, k = q + 1 := ⟨k - 1, by omega⟩
    refine ⟨_, (hstep k (by omega) (hall k (by omega))).2 kk, rfl⟩
  · rintro kk _ rfl
    rw [Nat.add_sub_cancel]
    refine if_pos ?_
    rw [show nI (10 + K) - (10 : Int32) = nI K from by rw [show (10 : Int32) = nI 10 from rfl, ni_sub (by omega), Nat.add_sub_cancel_left]]
    exact nI_lt (by omega) (by omega)
theorem m_walk {D : Nat → Nat → Nat} {N c K : Nat} {Z : zT} (hD : ∀ i s, D i s ≤ 27) (hc : c ≤ 9) (hN1 : 1 ≤ N) (hN12 : N ≤ 12) (hK : K < N) (hall : ∀ k, k ≤ K → atk D c N k < 27) (ht : ∀ r, r < N → ∀ o, o < 27 → Z 51 (27 * r + o) = nI (wst D c (N - 1 - r) r o)) :
    it1 (lX4_way_177 (nI c) (nI (10 + K)) Z) FU (nI (atk D c N 0)) (nI 0) = some (nI (atk D c N K), Z) := by
  have hsub : nI (10 + K) - (10 : Int32) = nI K := by rw [show (10 : Int32) = nI 10 from rfl, ni_sub (by omega), Nat.add_sub_cancel_left]
  refine it1_up (Q := fun o => o = some (nI (atk D c N K), Z)) (N := K) (fun k x => x = nI (atk D c N k)) ?_ ?_ (F := FU) (FU_lt (by omega)) rfl
  · rintro kk k _ hk rfl
    have h27 := hall k (by omega)
    have hr : ∀ o, o < 27 → Z 51 (27 * (k + 1) + o) = nI (wst D c (N - 2 - k) (k + 1) o) := fun o ho => by
      have := ht (k + 1) (by omega) o ho
      rwa [show N - 1 - (k + 1) = N - 2 - k from by omega] at this
    have hb := m_behind (i := k) (d := N - 2 - k) hD hc (by omega) (by omega) h27 hr
    have hf := fun J => m_find (J := J) (d := N - 2 - k) (k := k) hD hc (by omega) (by omega) h27 hr 27 0 (by omega) (mno_ex hD hc (by omega))
    refine ⟨_, ?_, rfl⟩
    unfold lX4_way_177
    rw [if_neg (show ¬ nI (10 + K) - (10 : Int32) ≤ nI k from by rw [hsub]; exact nI_ge hk (by omega)), hb, bd_s, njE, njE]
    refine Eq.trans (hf _ (999999999973)) ?_
    rw [nmE, show nI k + (1 : Int32) = nI (k + 1) from nI_1 k]
    rfl
  · rintro kk _ rfl
    refine if_pos ?_
    rw [hsub]
    exact nI_le (Nat.le_refl _) (by omega)
theorem op_way {a v w n m nn nl nw : Nat} {S : sT} {P : pT} {Y I Z : zT} (hR0 : Rel a v w S P Y I n Z m nn nl nw) (x y z : Int32) : Op a v w S P I n (fX0_way S P (enc a Y I) a x y z) (fX4_way Z x y z) := by
  have hR := R_z (f := 0) (i := 0) (x := (0 : Int32)) rfl hR0
  unfold fX4_way
  generalize zset Z 0 0 (0 : Int32) = Z1 at hR ⊢
  clear hR0
  obtain ⟨⟨hv, hw, hA, h4, h5, hL, hM⟩, hn, hX, hN, hB, hC, hP, hK⟩ := id hR
  have hm4 : m ≤ 4 := hN.2.1.1
  have hn20 : nn ≤ 20 := hN.2.1.2.1
  have hl99 : nl ≤ 99 := hN.2.1.2.2.1
  have hw9 : nw ≤ 9 := hN.2.1.2.2.2
  have hin : ∀ x lo hi, fX4_isIn Z1 x lo hi = fX0_isIn x lo hi := fun _ _ _ => rfl
  rw [nmE, hin x 1 12]
  unfold fX0_way
  rcases rng x 1 12 (by omega) (by omega) with ⟨N, hN1, hN12, rfl⟩ | h
  · rw [show fX0_isIn (nI N) (1 : Int32) (12 : Int32) = some (nI 1) from rin_t (lo := 1) (hi := 12) hN1 hN12 (by omega), bd_s, bd_s, if_neg (by decide), if_neg (by decide), hin y 0 9]
    rcases inb_c y 10 (by omega) with ⟨c, hc, rfl⟩ | hy
    · rw [show fX0_isIn (nI c) (0 : Int32) (9 : Int32) = some (nI 1) from rin_t (lo := 0) (hi := 9) (by omega) (by omega) (by omega), bd_s, bd_s, if_neg (by decide), if_neg (by decide)]
      have hD : ∀ i s, (fun i s => dnk Z1 i s 3) i s ≤ 27 := fun i s => dnk_le hB i s 3
      obtain ⟨Y0, y1, y2, y3⟩ := e_table hR (show c ≤ 9 by omega) hN12 N (Nat.le_refl _) Y (fun _ _ => rfl) (fun r h1 h2 => absurd h1 (by omega))
      obtain ⟨Z0, z1, z2, z3⟩ := m_table hR (show c ≤ 9 by omega) hN12 N (Nat.le_refl _) Z1 (fun _ _ => rfl) (fun r h1 h2 => absurd h1 (by omega))
      have hRy : Rel a v w S P Y0 I n Z1 m nn nl nw := R_yy y1 hR
      have hRf : Rel a v w S P Y0 I n Z0 m nn nl nw := R_zz (fun g hg => z1 g (by rintro rfl; exact absurd hg (by decide))) hRy
      have ef : 999999999999 - N + N + 1 = FU := by show _ = 1000000000000; omega
      have y3' := fun J => y3 J (999999999999 - N)
      have z3' := fun J => z3 J (999999999999 - N)
      rw [ef] at y3' z3'
      have hb : ∀ o, wst (fun i s => dnk Z1 i s 3) c (N - 1) 0 o < 1000000 := fun o => by
        have := wst_le hD (show c ≤ 9 by omega) (N - 1) 0 o
        omega
      have ya := fun J => e_agm (J := J) (I := I) (u := wst (fun i s => dnk Z1 i s 3) c (N - 1) 0) hA (fun o ho => y2 0 (by omega) o ho) hb
      have za := fun J => m_agm (J := J) (u := wst (fun i s => dnk Z1 i s 3) c (N - 1) 0) (fun o ho => z2 0 (by omega) o ho) hb
      have h27 : agm (wst (fun i s => dnk Z1 i s 3) c (N - 1) 0) 26 < 27 := Nat.lt_of_le_of_lt (agm_le _ 26) (by omega)
      by_cases hz : z = nI 0
      · subst hz
        have ey := y2 0 (by omega) _ h27
        have ez := z2 0 (by omega) _ h27
        rw [show 27 * 0 + agm (wst (fun i s => dnk Z1 i s 3) c (N - 1) 0) 26 = agm (wst (fun i s => dnk Z1 i s 3) c (N - 1) 0) 26 from by omega] at ez
        refine ⟨nI (wst (fun i s => dnk Z1 i s 3) c (N - 1 - 0) 0 (agm (wst (fun i s => dnk Z1 i s 3) c (N - 1) 0) 26)), Y0, Z0, m, nn, nl, nw, ?_, ?_, hRf⟩
        · rw [njE, if_pos (show nI 0 = (0 : Int32) from rfl), nmE, njE, njE]
          refine Eq.trans (y3' _) ?_
          refine Eq.trans (ya _) ?_
          rw [if_pos (show nI 0 = (0 : Int32) from rfl), gd_of (LA_ka hA), LA_p13 hA, bd_s, gd_of (LA_k13 hA), LA_n13 hA, gd_of (show inb (0 : Int32) 13 = true from rfl), show ix (0 : Int32) = 0 from rfl, LA_pE hA (show 0 < 13 by omega), bd_s, gd_of (LA_kE hA (show 0 < 13 by omega)), LA_nE hA (show 0 < 13 by omega), gd_of (inb_t h27 (by omega)), ni_ix (by omega), er_ls (show 0 < 13 by omega) h27, ey]
        · rw [njE, if_pos (show nI 0 = (0 : Int32) from rfl), nmE, njE, njE]
          refine Eq.trans (z3' _) ?_
          refine Eq.trans (za _) ?_
          rw [if_pos (show nI 0 = (0 : Int32) from rfl), gd_of (inb_t (show agm (wst (fun i s => dnk Z1 i s 3) c (N - 1) 0) 26 < 351 by omega) (by omega)), ni_ix (by omega), ez]
      · have hz0 : ¬ z = (0 : Int32) := hz
        rcases rng z 10 (9 + N) (by omega) (by omega) with ⟨j, hj1, hj2, rfl⟩ | hzz
        · obtain ⟨K, rfl⟩ : ∃ q, j = 10 + q := ⟨j - 10, by omega⟩
          have e9 : (9 : Int32) + nI N = nI (9 + N) := ni_add 9 N
          have hzin : fX0_isIn (nI (10 + K)) (10 : Int32) ((9 : Int32) + nI N) = some (nI 1) := by
            rw [e9]; exact rin_t (lo := 10) hj1 hj2 (by omega)
          have y2' : ∀ r, r < N → ∀ o, o < 27 → Y0 213 (27 * r + o) = nI (wst (fun i s => dnk Z1 i s 3) c (N - 1 - r) r o) := y2
          have ew := fun K' (hK' : K' < N) => e_walk (K := K') hRy (show c ≤ 9 by omega) hN1 hN12 hK' y2'
          have hall : ∀ k, k ≤ K → atk (fun i s => dnk Z1 i s 3) c N k < 27 := fun k hk => (ew k (by omega)).2
          have mw := m_walk (Z := Z0) hD (show c ≤ 9 by omega) hN1 hN12 (show K < N by omega) hall z2
          refine ⟨nI (atk (fun i s => dnk Z1 i s 3) c N K), Y0, Z0, m, nn, nl, nw, ?_, ?_, hRf⟩
          · rw [njE, if_neg hz0, hzin, bd_s, if_neg (by decide), nmE, njE, njE]
            refine Eq.trans (y3' _) ?_
            refine Eq.trans (ya _) ?_
            rw [if_neg hz0]
            exact (ew K (by omega)).1
          · rw [njE, if_neg hz0, hin, hzin, bd_s, if_neg (by decide), nmE, njE, njE]
            refine Eq.trans (z3' _) ?_
            refine Eq.trans (za _) ?_
            rw [if_neg hz0]
            exact mw
        · have e9 : (9 : Int32) + nI N = nI (9 + N) := ni_add 9 N
          have hzin : fX0_isIn z (10 : Int32) ((9 : Int32) + nI N) = some (nI 0) := by
            rw [e9]; exact in_f hzz
          refine ⟨-1, Y, Z1, m, nn, nl, nw, ?_, ?_, hR⟩
          · rw [njE, if_neg hz0, hzin, bd_s, if_pos (by decide)]
          · rw [njE, if_neg hz0, hin, hzin, bd_s, if_pos (by decide)]
    · rw [show fX0_isIn y (0 : Int32) (9 : Int32) = some (nI 0) from in0_f (m := 9) hy (by omega), bd_s, bd_s, if_pos (by decide), if_pos (by decide)]
      exact ⟨-1, Y, Z1, m, nn, nl, nw, rfl, rfl, hR⟩
  · rw [show fX0_isIn x (1 : Int32) (12 : Int32) = some (nI 0) from in_f h, bd_s, bd_s, if_pos (by decide), if_pos (by decide)]
    exact ⟨-1, Y, Z1, m, nn, nl, nw, rfl, rfl, hR⟩
