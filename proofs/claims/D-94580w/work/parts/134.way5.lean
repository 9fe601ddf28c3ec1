/-! LAYER 2: the way: how it goes on; the operation -/
def ff0 (f : Nat → Nat) (t : Nat) : Nat → Nat → Nat
  | 0, o => o
  | n + 1, o => if f o = t then o else ff0 f t n (o + 1)
theorem e_find {a v w n m nn nl nw : Nat} {S : sT} {P : pT} {Y I Z : zT} {c d k s : Nat} {J : Int32 → Option (Int32 × zT)} (hR : Rel a v w S P Y I n Z m nn nl nw) (hc : c ≤ 9) (hd : d ≤ 10) (hk : k < 11) (hs : s < 27) (hr : ∀ o, o < 27 → Y 213 (27 * (k + 1) + o) = nI (wst (fun i s => dnk Z i s 3) c d (k + 1) o)) (h0 : Y 213 (27 * k + s) = nI (dnk Z k s 3 + mno (wf (fun i s => dnk Z i s 3) c d k s) 27)) :
    ∀ n' o, o + n' ≤ 27 → (∃ o', o ≤ o' ∧ o' < o + n' ∧ wf (fun i s => dnk Z i s 3) c d k s o' = mno (wf (fun i s => dnk Z i s 3) c d k s) 27) → ff0 (wf (fun i s => dnk Z i s 3) c d k s) (mno (wf (fun i s => dnk Z i s 3) c d k s) 27) n' o < 27 ∧ ∀ F, it0 (lX0_way_235 S P a (nI c) (enc a Y I) (nI s) (nI (k + 1)) J) (F + n') (nI o) = J (nI (ff0 (wf (fun i s => dnk Z i s 3) c d k s) (mno (wf (fun i s => dnk Z i s 3) c d k s) 27) n' o)) := by
  obtain ⟨⟨hv, hw, hA, h4, h5, hL, hM⟩, hn, hX, hN, hB, hC, hP, hK⟩ := id hR
  have hm4 : m ≤ 4 := hN.2.1.1
  have hn20 : nn ≤ 20 := hN.2.1.2.1
  have hl99 : nl ≤ 99 := hN.2.1.2.2.1
  have hw9 : nw ≤ 9 := hN.2.1.2.2.2
  have hD : ∀ i s, (fun i s => dnk Z i s 3) i s ≤ 27 := fun i s => dnk_le hB i s 3
  have hM := (mno_le (f := wf (fun i s => dnk Z i s 3) c d k s) (k := 27)).1
  have hdn : dnk Z k s 3 ≤ 27 := hD k s
  have hda := e_dangerAt hR (show k < 12 by omega) hs
  intro n'
  induction n' with
  | zero => rintro o _ ⟨o', h1, h2, _⟩; omega
  | succ n' ih =>
    rintro o ho ⟨o', h1, h2, h3⟩
    have ho27 : o < 27 := by omega
    have hw : wf (fun i s => dnk Z i s 3) c d k s o = c * tlk s o 3 + wst (fun i s => dnk Z i s 3) c d (k + 1) o := rfl
    have hwl : wf (fun i s => dnk Z i s 3) c d k s o ≤ 700 := wf_lt hD hc (by omega)
    have hr' := hr o ho27
    have hstep : ∀ kk : Int32 → Option (Int32 × zT), lX0_way_235 S P a (nI c) (enc a Y I) (nI s) (nI (k + 1)) J kk (nI o) = if nI (wf (fun i s => dnk Z i s 3) c d k s o) = nI (mno (wf (fun i s => dnk Z i s 3) c d k s) 27) then J (nI o) else kk (nI (o + 1)) := by
      intro kk
      unfold lX0_way_235
      rw [hw]
      generalize mno (wf (fun i s => dnk Z i s 3) c d k s) 27 = M at hM h0
      rw [hw] at hwl
      have hsub : nI (dnk Z k s 3 + M) - nI (dnk Z k s 3) = nI M := by rw [ni_sub (by omega), Nat.add_sub_cancel_left]
      ((repeat (first | (with_reducible refine Eq.trans njE ?_; (try dsimp only)) | ((conv => lhs; arg 1; simp (maxSteps := 1000000) (disch := omega) only [e_changes hs ho27, hr', h0, hda, hsub, LA_ka hA, LA_p13 hA, LA_k13 hA, LA_n13 hA, LA_pE hA, LA_kE hA, LA_nE hA, er_ls, li_0, li_1, li_2, li_3, li_4, li_5, li_6, li_7, li_8, li_9, li_10, li_11, li_12, li_13, li_14, li_15, li_16, li_17, li_18, li_19, li_20, li_21, li_22, li_23, li_24, li_25, li_26, li_27, li_28, li_29, li_30, li_31, li_32, li_33, li_34, li_35, li_36, li_37, li_38, li_39, li_40, li_41, li_42, li_43, li_44, li_45, li_48, li_57, li_59, li_61, li_63, li_64, li_65, li_72, li_90, li_97, li_99, li_101, li_102, li_103, li_104, li_105, li_108, li_109, li_111, li_114, li_115, li_116, li_117, li_118, li_120, li_121, li_122, li_216, li_240, li_255, li_256, li_380, li_400, li_480, li_511, li_512, li_729, li_1000, li_5184, li_10000, li_46656, li_65536, li_99999, li_1000000, ni_add, ni_mul, ni_sub, ni_ix, inb_t, ni_le_t, ni_le_f, ni_lt_t, ni_lt_f, ni_eq_t, ni_eq_f, ni_m1, ni_m1', ni_mn, ni_mn', Nat.add_sub_cancel, Nat.add_zero, zr_ne, zr_ni, zr_eq, gd_t, bd_s, if_true, if_false, Bool.not_true, Bool.not_false, ↓reduceIte, decide_false, decide_true]); (first | with_reducible refine Eq.trans gd_t ?_ | with_reducible refine Eq.trans bd_s ?_ | with_reducible refine Eq.trans bdp_s ?_ | with_reducible refine Eq.trans (if_pos trivial) ?_ | with_reducible refine Eq.trans (if_neg not_false) ?_ | with_reducible refine Eq.trans nmE ?_))));  (try simp (maxSteps := 1000000) (disch := omega) only [e_changes hs ho27, hr', h0, hda, hsub, LA_ka hA, LA_p13 hA, LA_k13 hA, LA_n13 hA, LA_pE hA, LA_kE hA, LA_nE hA, er_ls, li_0, li_1, li_2, li_3, li_4, li_5, li_6, li_7, li_8, li_9, li_10, li_11, li_12, li_13, li_14, li_15, li_16, li_17, li_18, li_19, li_20, li_21, li_22, li_23, li_24, li_25, li_26, li_27, li_28, li_29, li_30, li_31, li_32, li_33, li_34, li_35, li_36, li_37, li_38, li_39, li_40, li_41, li_42, li_43, li_44, li_45, li_48, li_57, li_59, li_61, li_63, li_64, li_65, li_72, li_90, li_97, li_99, li_101, li_102, li_103, li_104, li_105, li_108, li_109, li_111, li_114, li_115, li_116, li_117, li_118, li_120, li_121, li_122, li_216, li_240, li_255, li_256, li_380, li_400, li_480, li_511, li_512, li_729, li_1000, li_5184, li_10000, li_46656, li_65536, li_99999, li_1000000, ni_add, ni_mul, ni_sub, ni_ix, inb_t, ni_le_t, ni_le_f, ni_lt_t, ni_lt_f, ni_eq_t, ni_eq_f, ni_m1, ni_m1', ni_mn, ni_mn', Nat.add_sub_cancel, Nat.add_zero, zr_ne, zr_ni, zr_eq, gd_t, bd_s, if_true, if_false, Bool.not_true, Bool.not_false, ↓reduceIte, decide_false, decide_true]))
      rfl
    by_cases he : wf (fun i s => dnk Z i s 3) c d k s o = mno (wf (fun i s => dnk Z i s 3) c d k s) 27
    · have hf : ff0 (wf (fun i s => dnk Z i s 3) c d k s) (mno (wf (fun i s => dnk Z i s 3) c d k s) 27) (n' + 1) o = o := if_pos he
      rw [hf]
      refine ⟨ho27, fun F => ?_⟩
      refine Eq.trans (hstep _) (if_pos ?_)
      rw [he]
    · have hf : ff0 (wf (fun i s => dnk Z i s 3) c d k s) (mno (wf (fun i s => dnk Z i s 3) c d k s) 27) (n' + 1) o = ff0 (wf (fun i s => dnk Z i s 3) c d k s) (mno (wf (fun i s => dnk Z i s 3) c d k s) 27) n' (o + 1) := if_neg he
      rw [hf]
      have hne : o' ≠ o := by rintro rfl; exact he h3
      obtain ⟨q1, q2⟩ := ih (o + 1) (by omega) ⟨o', by omega, by omega, h3⟩
      refine ⟨q1, fun F => ?_⟩
      rw [← q2 F]
      exact Eq.trans (hstep _) (if_neg (ni_ne he (by omega) (by omega)))
theorem m_find {c d k s : Nat} {D : Nat → Nat → Nat} {Z : zT} {J : Int32 → Option (Int32 × zT)} (hD : ∀ i s, D i s ≤ 27) (hc : c ≤ 9) (hd : d ≤ 10) (hk : k < 11) (hs : s < 27) (hr : ∀ o, o < 27 → Z 51 (27 * (k + 1) + o) = nI (wst D c d (k + 1) o)) :
    ∀ n' o, o + n' ≤ 27 → (∃ o', o ≤ o' ∧ o' < o + n' ∧ wf D c d k s o' = mno (wf D c d k s) 27) → ∀ F, it0 (lX4_way_200 (nI c) Z (nI s) (nI k) (nI (mno (wf D c d k s) 27)) J) (F + n') (nI o) = J (nI (ff0 (wf D c d k s) (mno (wf D c d k s) 27) n' o)) := by
  have hM := (mno_le (f := wf D c d k s) (k := 27)).1
  intro n'
  induction n' with
  | zero => rintro o _ ⟨o', h1, h2, _⟩; omega
  | succ n' ih =>
    rintro o ho ⟨o', h1, h2, h3⟩
    have ho27 : o < 27 := by omega
    have hw : wf D c d k s o = c * tlk s o 3 + wst D c d (k + 1) o := rfl
    have hwl : wf D c d k s o ≤ 700 := wf_lt hD hc (by omega)
    have hr' := hr o ho27
    have hstep : ∀ kk : Int32 → Option (Int32 × zT), lX4_way_200 (nI c) Z (nI s) (nI k) (nI (mno (wf D c d k s) 27)) J kk (nI o) = if nI (wf D c d k s o) = nI (mno (wf D c d k s) 27) then J (nI o) else kk (nI (o + 1)) := by
      intro kk
      unfold lX4_way_200
      rw [hw]
      generalize mno (wf D c d k s) 27 = M at hM
      rw [hw] at hwl
      ((repeat (first | (with_reducible refine Eq.trans njE ?_; (try dsimp only)) | ((conv => lhs; arg 1; simp (maxSteps := 1000000) (disch := omega) only [m_tolls hs ho27, hr', li_0, li_1, li_2, li_3, li_4, li_5, li_6, li_7, li_8, li_9, li_10, li_11, li_12, li_13, li_14, li_15, li_16, li_17, li_18, li_19, li_20, li_21, li_22, li_23, li_24, li_25, li_26, li_27, li_28, li_29, li_30, li_31, li_32, li_33, li_34, li_35, li_36, li_37, li_38, li_39, li_40, li_41, li_42, li_43, li_44, li_45, li_48, li_57, li_59, li_61, li_63, li_64, li_65, li_72, li_90, li_97, li_99, li_101, li_102, li_103, li_104, li_105, li_108, li_109, li_111, li_114, li_115, li_116, li_117, li_118, li_120, li_121, li_122, li_216, li_240, li_255, li_256, li_380, li_400, li_480, li_511, li_512, li_729, li_1000, li_5184, li_10000, li_46656, li_65536, li_99999, li_1000000, ni_add, ni_mul, ni_sub, ni_ix, inb_t, ni_le_t, ni_le_f, ni_lt_t, ni_lt_f, ni_eq_t, ni_eq_f, ni_m1, ni_m1', ni_mn, ni_mn', Nat.add_sub_cancel, Nat.add_zero, zr_ne, zr_ni, zr_eq, gd_t, bd_s, if_true, if_false, Bool.not_true, Bool.not_false, ↓reduceIte, decide_false, decide_true]); (first | with_reducible refine Eq.trans gd_t ?_ | with_reducible refine Eq.trans bd_s ?_ | with_reducible refine Eq.trans bdp_s ?_ | with_reducible refine Eq.trans (if_pos trivial) ?_ | with_reducible refine Eq.trans (if_neg not_false) ?_ | with_reducible refine Eq.trans nmE ?_))));  (try simp (maxSteps := 1000000) (disch := omega) only [m_tolls hs ho27, hr', li_0, li_1, li_2, li_3, li_4, li_5, li_6, li_7, li_8, li_9, li_10, li_11, li_12, li_13, li_14, li_15, li_16, li_17, li_18, li_19, li_20, li_21, li_22, li_23, li_24, li_25, li_26, li_27, li_28, li_29, li_30, li_31, li_32, li_33, li_34, li_35, li_36, li_37, li_38, li_39, li_40, li_41, li_42, li_43, li_44, li_45, li_48, li_57, li_59, li_61, li_63, li_64, li_65, li_72, li_90, li_97, li_99, li_101, li_102, li_103, li_104, li_105, li_108, li_109, li_111, li_114, li_115, li_116, li_117, li_118, li_120, li_121, li_122, li_216, li_240, li_255, li_256, li_380, li_400, li_480, li_511, li_512, li_729, li_1000, li_5184, li_10000, li_46656, li_65536, li_99999, li_1000000, ni_add, ni_mul, ni_sub, ni_ix, inb_t, ni_le_t, ni_le_f, ni_lt_t, ni_lt_f, ni_eq_t, ni_eq_f, ni_m1, ni_m1', ni_mn, ni_mn', Nat.add_sub_cancel, Nat.add_zero, zr_ne, zr_ni, zr_eq, gd_t, bd_s, if_true, if_false, Bool.not_true, Bool.not_false, ↓reduceIte, decide_false, decide_true]))
      rfl
    by_cases he : wf D c d k s o = mno (wf D c d k s) 27
    · have hf : ff0 (wf D c d k s) (mno (wf D c d k s) 27) (n' + 1) o = o := if_pos he
      rw [hf]
      intro F
      refine Eq.trans (hstep _) (if_pos ?_)
      rw [he]
    · have hf : ff0 (wf D c d k s) (mno (wf D c d k s) 27) (n' + 1) o = ff0 (wf D c d k s) (mno (wf D c d k s) 27) n' (o + 1) := if_neg he
      rw [hf]
      have hne : o' ≠ o := by rintro rfl; exact he h3
      have q2 := ih (o + 1) (by omega) ⟨o', by omega, by omega, h3⟩
      intro F
      rw [← q2 F]
      exact Eq.trans (hstep _) (if_neg (ni_ne he (by omega) (by omega)))
/-- where one is at the k-th place of the best way -/
def atk (D : Nat → Nat → Nat) (c N : Nat) : Nat → Nat
  | 0 => agm (wst D c (N - 1) 0) 26
  | k + 1 => ff0 (wf D c (N - 2 - k) k (atk D c N k)) (mno (wf D c (N - 2 - k) k (atk D c N k)) 27) 27 0
