/-! THE MODEL: parse, append, clearText, undo -/
set_option maxRecDepth 100000
theorem okX0.g {M M' : Nat → Int → Int} (h : okX0 M) (h1 : M' 20 = M 20) (h2 : M' 21 = M 21) : okX0 M' := by
  unfold okX0; rw [h1, h2]; exact h
theorem saveM_fr (M : Nat → Int → Int) : fr [1, 3] M (saveM M) := by
  unfold saveM
  split
  · exact (fr_mA.up (by decide)).tr (fr_mA.up (by decide))
  · exact (fr_mA.up (by decide)).tr (fr_mA.up (by decide))
theorem saveM_e {M M1 : Nat → Int → Int} (h0 : M1 0 = M 0) (h1 : M1 1 = M 1) (h3 : M1 3 = M 3) : saveM M1 1 = saveM M 1 ∧ saveM M1 3 = saveM M 3 := by
  unfold saveM
  rw [h0, h1, h3]
  split
  · exact ⟨rfl, rfl⟩
  · exact ⟨rfl, rfl⟩
theorem Found.r6 {az A : Int → Int} (hL : okL az) (h : Found az A) : 0 ≤ A 6 ∧ A 6 ≤ 36 := by
  have := hL.m
  have h1 := cnt_r (az := az) (a := mny az) (by omega)
  rw [h.2]; omega
/-- the two arrays changed about, below t -/
def swF (f h : Int → Int) (t : Int) : Int → Int := fun j => if 0 ≤ j ∧ j < t then h j else f j
theorem swF_s {f h : Int → Int} {t : Int} (ht : 0 ≤ t) : fup (swF f h t) t (h t) = swF f h (t + 1) := by
  funext j
  by_cases e : j = t
  · rw [e, fup_s]; unfold swF; rw [if_pos (by omega)]
  · rw [fup_n _ _ e]; unfold swF
    by_cases e2 : 0 ≤ j ∧ j < t
    · rw [if_pos e2, if_pos (by omega)]
    · rw [if_neg e2, if_neg (by omega)]
theorem swF_0 {f h : Int → Int} : swF f h 0 = f := by
  funext j; unfold swF; rw [if_neg (by omega)]
theorem swF_n {f h : Int → Int} {t : Int} : swF f h t t = f t := by unfold swF; rw [if_neg (by omega)]
set_option maxHeartbeats 4000000 in
theorem ct_parse {g : GV} (hg : GOk g) {ad : Nat → Nat} {M : Nat → Int → Int} (hX : okX0 M) (h3 : 0 ≤ M 3 0 ∧ M 3 0 ≤ 4) : CMi g ad yX5_parse cX5_parse 5 10 .int [] M (fun z M' => fr [0, 1, 2, 3, 4, 5, 22, 23] M M' ∧ M' 4 0 = 0 ∧ ((∃ e az, readP (M 20) (M 21 0) 0 e az ∧ z = -10 - e ∧ M' 0 = M 0 ∧ M' 1 = M 1 ∧ M' 3 = M 3) ∨ (∃ e az, readP (M 20) (M 21 0) 1 e az ∧ okL az ∧ Found az (M' 0) ∧ z = M' 0 6 ∧ M' 1 = saveM M 1 ∧ M' 3 = saveM M 3))) := by
  refine wm_ofi hg (by decide +kernel) (Nat.le_of_ble_eq_true rfl) (fun F G R9 => ?_)
  have G : FxOk g F cX5_parse RX5 5 10 := G
  refine wp_loc (L' := [(0, _)]) rfl ?_
  refine wp_aload_n (pc := 0) G dX5_parse_0 rfl 0 rfl ?_
  refine wp_iconst (pc := 1) G dX5_parse_1 ?_
  refine wm_put_4 (pc := 2) G dX5_parse_2 fX5_54_4 ?_
  refine wp_aload_n (pc := 5) G dX5_parse_5 rfl 0 rfl ?_
  refine wm_callv0 (pc := 6) G dX5_parse_6 kX5_272 (ct_lays hg) (by decide) (by decide) (Nat.le_of_ble_eq_true rfl) (fun M_6 h_6 => ?_)
  have e6 : fr [2, 4] M M_6 := by rw [h_6]; exact (fr.rf.s1 (by decide)).tr (fr_mA.up (by decide))
  refine wp_aload_n (pc := 9) G dX5_parse_9 rfl 0 rfl ?_
  refine wm_calli0 (pc := 10) G dX5_parse_10 kX5_330 (ct_reads hg (hX.g (e6 20 (by decide)) (e6 21 (by decide)))) (by decide) (by decide) (Nat.le_of_ble_eq_true rfl) (fun z_10 M_10 h_10 => ?_)
  obtain ⟨hf10, hz10, hr10, hl10⟩ := h_10
  have e10 : fr [0, 1, 2, 3, 4, 5, 22, 23] M M_10 := (e6.up (by decide)).tr (hf10.up (by decide))
  have y10 : isB z_10 (z_10 = 1) := hz10.elim (fun e => Or.inr ⟨e, by omega⟩) (fun e => Or.inl ⟨e, e⟩)
  rw [e6 20 (by decide), e6 21 (by decide)] at hr10
  refine wp_istore_n (L' := [(1, _), (0, _)]) (pc := 13) G dX5_parse_13 rfl (by decide) rfl ?_
  refine wp_iload_n (pc := 14) G dX5_parse_14 rfl 0 rfl ?_
  refine wp_if_ne (tgt := 30) (pc := 15) G dX5_parse_15 y10.r (by decide) (fun h_15 => ?_) (fun h_15 => ?_)
  · have h_15 := y10.t h_15
    refine wp_aload_n (pc := 30) G dX5_parse_30 rfl 1 rfl ?_
    refine wm_callv0 (pc := 31) G dX5_parse_31 kX5_174 (ct_finds hg (hl10 (by omega))) (by decide) (by decide) (Nat.le_of_ble_eq_true rfl) (fun M_31 h_31 => ?_)
    obtain ⟨hf31, hfo⟩ := h_31
    have hL31 : okL (M_10 0) := hl10 (by omega)
    obtain ⟨A, hA⟩ : ∃ A, A = M_31 0 := ⟨_, rfl⟩
    obtain ⟨A2, hA2⟩ : ∃ A, A = M_31 2 := ⟨_, rfl⟩
    have hA0 : A2 = M 0 := by rw [hA2, hf31 2 (by decide), hf10 2 (by decide), h_6]; rfl
    have e31 : fr [0, 1, 2, 3, 4, 5, 22, 23] M M_31 := e10.tr (hf31.up (by decide))
    have k31 : M_31 1 = M 1 ∧ M_31 3 = M 3 ∧ M_31 4 0 = 0 := by
      refine ⟨?_, ?_, ?_⟩
      · rw [hf31 1 (by decide), hf10 1 (by decide), h_6]; rfl
      · rw [hf31 3 (by decide), hf10 3 (by decide), h_6]; rfl
      · rw [hf31 4 (by decide), hf10 4 (by decide), h_6]; rfl
    refine wp_iconst (pc := 34) G dX5_parse_34 ?_
    refine wp_istore_n (L' := [(2, _), (1, _), (0, _)]) (pc := 35) G dX5_parse_35 rfl (by decide) rfl ?_
    refine wp_sub (L' := [(2, _), (0, _), (1, _)]) [0, 2, 1] rfl ?_
    have fin : ∀ (M1 : Nat → Int → Int) (w9 k9 : Int), fr [0, 2] M_31 M1 → Wp g F [MB g ad (mA (mA M1 0 A2) 2 A)] 0 0 75 [(2, iV k9), (0, .ref (ad 25)), (1, iV w9)] [] := by
      intro M1 w9 k9 hf
      have g3 : mA (mA M1 0 A2) 2 A 3 0 = M 3 0 := by
        show M1 3 0 = M 3 0
        rw [hf 3 (by decide), k31.2.1]
      refine wp_aload_n (pc := 75) G dX5_parse_75 rfl 1 rfl ?_
      refine wm_callv0 (pc := 76) G dX5_parse_76 kX5_187 (ct_save hg (by rw [g3]; exact h3)) (by decide) (by decide) (Nat.le_of_ble_eq_true rfl) (fun M_76 h_76 => ?_)
      refine wp_aload_n (pc := 79) G dX5_parse_79 rfl 1 rfl ?_
      refine wm_callv0 (pc := 80) G dX5_parse_80 kX5_275 (ct_takesBack hg) (by decide) (by decide) (Nat.le_of_ble_eq_true rfl) (fun M_80 h_80 => ?_)
      refine wp_aload_n (pc := 83) G dX5_parse_83 rfl 1 rfl ?_
      refine wm_get_0 (pc := 84) G dX5_parse_84 fX5_7_4 ?_
      refine wp_bipush (pc := 87) G dX5_parse_87 (by decide) ?_
      refine wm_ald_0 (pc := 89) G dX5_parse_89 (by omega) ?_
      refine wp_l2i (pc := 90) G dX5_parse_90 ?_
      have ht9 := h_80
      have hs9 : M_76 = saveM (mA (mA M1 0 A2) 2 A) := h_76
      have hsf := saveM_fr (mA (mA M1 0 A2) 2 A)
      obtain ⟨s1, s3⟩ := saveM_e (M := M) (M1 := mA (mA M1 0 A2) 2 A) (by rw [← hA0]; rfl) (by show M1 1 = M 1; rw [hf 1 (by decide)]; exact k31.1) (by show M1 3 = M 3; rw [hf 3 (by decide)]; exact k31.2.1)
      have z0 : M_80 0 = A := by rw [ht9]; show M_76 2 = A; rw [hs9, hsf 2 (by decide)]; rfl
      have hfin : fr [0, 1, 2, 3, 4, 5, 22, 23] M M_80 := by
        rw [ht9, hs9]
        exact ((e31.tr (hf.up (by decide))).tr ((fr_mA.up (by decide)).tr (fr_mA.up (by decide)))).tr ((hsf.up (by decide)).tr (fr_mA.up (by decide)))
      exact wm_iret (pc := 91) G R9 dX5_parse_91 ⟨hfin, by rw [ht9]; show M_76 4 0 = 0; rw [hs9, hsf 4 (by decide)]; show M1 4 0 = 0; rw [hf 4 (by decide)]; exact k31.2.2, Or.inr ⟨_, M_10 0, by rw [show (1 : Int) = z_10 by omega]; exact hr10, hL31, by rw [z0, hA]; exact hfo, by rw [z0], by rw [ht9]; show M_76 1 = _; rw [hs9]; exact s1, by rw [ht9]; show M_76 3 = _; rw [hs9]; exact s3⟩⟩
    have loop : ∀ (w9 : Int) (n : Nat) (k : Int) (M1 : Nat → Int → Int), (0 ≤ k ∧ k ≤ 513) → (514 ≤ k + n) → (fr [0, 2] M_31 M1) → (M1 0 = swF A A2 k) → (M1 2 = swF A2 A k) → Wp g F [MB g ad M1] 0 0 36 [(2, iV k), (0, .ref (ad 25)), (1, iV w9)] [] := by
      intro w9 n
      induction n with
      | zero =>
        intro k M1 hk hn hf h0 h2
        exfalso
        omega
      | succ n ih =>
        intro k M1 hk hn hf h0 h2
        refine wp_iload_n (pc := 36) G dX5_parse_36 rfl 0 rfl ?_
        refine wp_sipush (pc := 37) G dX5_parse_37 (by decide) ?_
        refine wp_icmp_ge (tgt := 75) (pc := 40) G dX5_parse_40 (by omega) (by omega) (by decide) (fun h_40 => ?_) (fun h_40 => ?_)
        · refine wp_loc (L' := [(2, _), (0, _), (1, _)]) rfl ?_
          have hk : k = 513 := by omega
          subst hk
          refine wm_norm (M' := mA (mA M1 0 A2) 2 A) ?_ ?_
          · intro q hq
            by_cases e1 : q = 0
            · subst e1
              rw [if_pos (show mArr 0 = true from rfl)]
              intro j hj
              show M1 0 j = A2 j
              have hj : 0 ≤ j ∧ j < 513 := hj
              rw [h0]; unfold swF; rw [if_pos hj]
            · by_cases e2 : q = 2
              · subst e2
                rw [if_pos (show mArr 2 = true from rfl)]
                intro j hj
                show M1 2 j = A j
                have hj : 0 ≤ j ∧ j < 513 := hj
                rw [h2]; unfold swF; rw [if_pos hj]
              · have e4 : mA (mA M1 0 A2) 2 A q = M1 q := by simp only [mA, if_neg e1, if_neg e2]
                rw [e4]
                split
                · exact fun _ _ => rfl
                · rfl
          exact fin M1 w9 513 hf
        · refine wp_aload_n (pc := 43) G dX5_parse_43 rfl 1 rfl ?_
          refine wm_get_0 (pc := 44) G dX5_parse_44 fX5_7_4 ?_
          refine wp_iload_n (pc := 47) G dX5_parse_47 rfl 0 rfl ?_
          refine wm_ald_0 (pc := 48) G dX5_parse_48 (by omega) ?_
          refine wp_lstore_n (L' := [(3, _), (2, _), (0, _), (1, _)]) (pc := 49) G dX5_parse_49 rfl (by decide) rfl ?_
          refine wp_aload_n (pc := 50) G dX5_parse_50 rfl 2 rfl ?_
          refine wm_get_0 (pc := 51) G dX5_parse_51 fX5_7_4 ?_
          refine wp_iload_n (pc := 54) G dX5_parse_54 rfl 1 rfl ?_
          refine wp_aload_n (pc := 55) G dX5_parse_55 rfl 2 rfl ?_
          refine wm_get_2 (pc := 56) G dX5_parse_56 fX5_16_4 ?_
          refine wp_iload_n (pc := 59) G dX5_parse_59 rfl 1 rfl ?_
          refine wm_ald_2 (pc := 60) G dX5_parse_60 (by omega) ?_
          refine wm_ast_0 (pc := 61) G dX5_parse_61 (by omega) ?_
          refine wp_aload_n (pc := 62) G dX5_parse_62 rfl 2 rfl ?_
          refine wm_get_2 (pc := 63) G dX5_parse_63 fX5_16_4 ?_
          refine wp_iload_n (pc := 66) G dX5_parse_66 rfl 1 rfl ?_
          refine wp_lload_n (pc := 67) G dX5_parse_67 rfl 0 rfl ?_
          refine wm_ast_2 (pc := 68) G dX5_parse_68 (by omega) ?_
          refine wp_iinc (L' := [(2, _), (3, _), (0, _), (1, _)]) (pc := 69) G dX5_parse_69 1 rfl (by decide) rfl ?_
          refine wp_goto (tgt := 36) (pc := 72) G dX5_parse_72 (by decide) ?_
          refine wp_sub (L' := [(2, _), (0, _), (1, _)]) [0, 2, 3] rfl ?_
          exact ih (k + 1) _ (by omega) (by omega) ((hf.a1 (by decide)).a1 (by decide)) (by
            rw [← swF_s hk.1]
            show fup (M1 0) k (M1 2 k) = _
            rw [h0, h2, swF_n]) (by
            rw [← swF_s hk.1]
            show fup (M1 2) k (M1 0 k) = _
            rw [h0, h2, swF_n])
    exact loop _ 514 0 _ (by omega) (by omega) fr.rf (by rw [swF_0, hA]) (by rw [swF_0, hA2])
  · have h_15 := y10.f h_15
    refine wp_aload_n (pc := 18) G dX5_parse_18 rfl 1 rfl ?_
    refine wm_callv0 (pc := 19) G dX5_parse_19 kX5_275 (ct_takesBack hg) (by decide) (by decide) (Nat.le_of_ble_eq_true rfl) (fun M_19 h_19 => ?_)
    refine wp_bipush (pc := 22) G dX5_parse_22 (by decide) ?_
    refine wp_aload_n (pc := 24) G dX5_parse_24 rfl 1 rfl ?_
    refine wm_get_22 (pc := 25) G dX5_parse_25 fX5_291_4 ?_
    refine wp_isub (pc := 28) G dX5_parse_28 ?_
    exact wm_iret (pc := 29) G R9 dX5_parse_29 (by
      have f19 : fr [0, 1, 2, 3, 4, 5, 22, 23] M M_19 := by rw [h_19]; exact e10.tr (fr_mA.up (by decide))
      have hz : z_10 = 0 := by omega
      rw [hz] at hr10
      refine ⟨f19, ?_, Or.inl ⟨_, _, hr10, ?_, ?_, ?_, ?_⟩⟩
      · rw [h_19]; show M_10 4 0 = 0; rw [hf10 4 (by decide), h_6]; rfl
      · rw [h_19]; rfl
      · rw [h_19]; show M_10 2 = M 0; rw [hf10 2 (by decide), h_6]; rfl
      · rw [h_19]; show M_10 1 = M 1; rw [hf10 1 (by decide), h_6]; rfl
      · rw [h_19]; show M_10 3 = M 3; rw [hf10 3 (by decide), h_6]; rfl)
set_option maxHeartbeats 4000000 in
theorem ct_goes {g : GV} (hg : GOk g) {ad : Nat → Nat} {M : Nat → Int → Int} {p q r : Int} (hp : p = 0 ∨ p = 1) (hq : q = 0 ∨ q = 1) (hr : r = 0 ∨ r = 1) : CMi g ad yX5_goes cX5_goes 4 0 .boolean [iV p, iV q, iV r] M (fun z M' => M' = ms1 M 4 (thr3 p q r) ∧ isB z (thr3 p q r = 0)) := by
  refine wm_ofi hg (by decide +kernel) (Nat.le_of_ble_eq_true rfl) (fun F G R9 => ?_)
  have G : FxOk g F cX5_goes RX5 4 0 := G
  refine wp_loc (L' := [(0, _), (1, _), (2, _), (3, _)]) rfl ?_
  refine wp_aload_n (pc := 0) G dX5_goes_0 rfl 0 rfl ?_
  refine wp_iload_n (pc := 1) G dX5_goes_1 rfl 1 rfl ?_
  refine wp_if_ne (tgt := 9) (pc := 2) G dX5_goes_2 (by omega) (by decide) (fun h_2 => ?_) (fun h_2 => ?_)
  · refine wp_iload_n (pc := 9) G dX5_goes_9 rfl 2 rfl ?_
    refine wp_if_ne (tgt := 17) (pc := 10) G dX5_goes_10 (by omega) (by decide) (fun h_10 => ?_) (fun h_10 => ?_)
    · refine wp_iload_n (pc := 17) G dX5_goes_17 rfl 3 rfl ?_
      refine wp_if_ne (tgt := 25) (pc := 18) G dX5_goes_18 (by omega) (by decide) (fun h_18 => ?_) (fun h_18 => ?_)
      · refine wp_iconst (pc := 25) G dX5_goes_25 ?_
        refine wm_put_4 (pc := 26) G dX5_goes_26 fX5_54_4 ?_
        refine wp_aload_n (pc := 29) G dX5_goes_29 rfl 0 rfl ?_
        refine wm_get_4 (pc := 30) G dX5_goes_30 fX5_54_4 ?_
        refine wp_if_ne (tgt := 40) (pc := 33) G dX5_goes_33 (by first | exact (show -2147483648 ≤ (0 : Int) ∧ (0 : Int) ≤ 2147483647 by decide) | exact (show -2147483648 ≤ (1 : Int) ∧ (1 : Int) ≤ 2147483647 by decide) | exact (show -2147483648 ≤ (2 : Int) ∧ (2 : Int) ≤ 2147483647 by decide) | exact (show -2147483648 ≤ (3 : Int) ∧ (3 : Int) ≤ 2147483647 by decide)) (by decide) (fun h_33 => ?_) (fun h_33 => ?_)
        · refine wp_iconst (pc := 40) G dX5_goes_40 ?_
          first
            | exact absurd h_33 (show ¬ ((1 : Int) = 0) by decide)
            | exact absurd h_33 (show ¬ ((2 : Int) = 0) by decide)
            | exact absurd h_33 (show ¬ ((3 : Int) = 0) by decide)
            | exact absurd (show (ms1 M 4 0) 4 0 = 0 from rfl) h_33
            | (have e9 : thr3 p q r = 1 := if_pos h_2
               exact wm_zret (pc := 41) G R9 dX5_goes_41 (by decide) ⟨by rw [e9], isB.i0 (by rw [e9]; decide)⟩)
            | (have e9 : thr3 p q r = 2 := (if_neg h_2).trans (if_pos h_10)
               exact wm_zret (pc := 41) G R9 dX5_goes_41 (by decide) ⟨by rw [e9], isB.i0 (by rw [e9]; decide)⟩)
            | (have e9 : thr3 p q r = 3 := (if_neg h_2).trans ((if_neg h_10).trans (if_pos h_18))
               exact wm_zret (pc := 41) G R9 dX5_goes_41 (by decide) ⟨by rw [e9], isB.i0 (by rw [e9]; decide)⟩)
            | (have e9 : thr3 p q r = 0 := (if_neg h_2).trans ((if_neg h_10).trans (if_neg h_18))
               exact wm_zret (pc := 41) G R9 dX5_goes_41 (by decide) ⟨by rw [e9], isB.i1 e9⟩)
        · refine wp_iconst (pc := 36) G dX5_goes_36 ?_
          refine wp_goto (tgt := 41) (pc := 37) G dX5_goes_37 (by decide) ?_
          first
            | exact absurd h_33 (show ¬ ((1 : Int) = 0) by decide)
            | exact absurd h_33 (show ¬ ((2 : Int) = 0) by decide)
            | exact absurd h_33 (show ¬ ((3 : Int) = 0) by decide)
            | exact absurd (show (ms1 M 4 0) 4 0 = 0 from rfl) h_33
            | (have e9 : thr3 p q r = 1 := if_pos h_2
               exact wm_zret (pc := 41) G R9 dX5_goes_41 (by decide) ⟨by rw [e9], isB.i0 (by rw [e9]; decide)⟩)
            | (have e9 : thr3 p q r = 2 := (if_neg h_2).trans (if_pos h_10)
               exact wm_zret (pc := 41) G R9 dX5_goes_41 (by decide) ⟨by rw [e9], isB.i0 (by rw [e9]; decide)⟩)
            | (have e9 : thr3 p q r = 3 := (if_neg h_2).trans ((if_neg h_10).trans (if_pos h_18))
               exact wm_zret (pc := 41) G R9 dX5_goes_41 (by decide) ⟨by rw [e9], isB.i0 (by rw [e9]; decide)⟩)
            | (have e9 : thr3 p q r = 0 := (if_neg h_2).trans ((if_neg h_10).trans (if_neg h_18))
               exact wm_zret (pc := 41) G R9 dX5_goes_41 (by decide) ⟨by rw [e9], isB.i1 e9⟩)
      · refine wp_iconst (pc := 21) G dX5_goes_21 ?_
        refine wp_goto (tgt := 26) (pc := 22) G dX5_goes_22 (by decide) ?_
        refine wm_put_4 (pc := 26) G dX5_goes_26 fX5_54_4 ?_
        refine wp_aload_n (pc := 29) G dX5_goes_29 rfl 0 rfl ?_
        refine wm_get_4 (pc := 30) G dX5_goes_30 fX5_54_4 ?_
        refine wp_if_ne (tgt := 40) (pc := 33) G dX5_goes_33 (by first | exact (show -2147483648 ≤ (0 : Int) ∧ (0 : Int) ≤ 2147483647 by decide) | exact (show -2147483648 ≤ (1 : Int) ∧ (1 : Int) ≤ 2147483647 by decide) | exact (show -2147483648 ≤ (2 : Int) ∧ (2 : Int) ≤ 2147483647 by decide) | exact (show -2147483648 ≤ (3 : Int) ∧ (3 : Int) ≤ 2147483647 by decide)) (by decide) (fun h_33 => ?_) (fun h_33 => ?_)
        · refine wp_iconst (pc := 40) G dX5_goes_40 ?_
          first
            | exact absurd h_33 (show ¬ ((1 : Int) = 0) by decide)
            | exact absurd h_33 (show ¬ ((2 : Int) = 0) by decide)
            | exact absurd h_33 (show ¬ ((3 : Int) = 0) by decide)
            | exact absurd (show (ms1 M 4 0) 4 0 = 0 from rfl) h_33
            | (have e9 : thr3 p q r = 1 := if_pos h_2
               exact wm_zret (pc := 41) G R9 dX5_goes_41 (by decide) ⟨by rw [e9], isB.i0 (by rw [e9]; decide)⟩)
            | (have e9 : thr3 p q r = 2 := (if_neg h_2).trans (if_pos h_10)
               exact wm_zret (pc := 41) G R9 dX5_goes_41 (by decide) ⟨by rw [e9], isB.i0 (by rw [e9]; decide)⟩)
            | (have e9 : thr3 p q r = 3 := (if_neg h_2).trans ((if_neg h_10).trans (if_pos h_18))
               exact wm_zret (pc := 41) G R9 dX5_goes_41 (by decide) ⟨by rw [e9], isB.i0 (by rw [e9]; decide)⟩)
            | (have e9 : thr3 p q r = 0 := (if_neg h_2).trans ((if_neg h_10).trans (if_neg h_18))
               exact wm_zret (pc := 41) G R9 dX5_goes_41 (by decide) ⟨by rw [e9], isB.i1 e9⟩)
        · refine wp_iconst (pc := 36) G dX5_goes_36 ?_
          refine wp_goto (tgt := 41) (pc := 37) G dX5_goes_37 (by decide) ?_
          first
            | exact absurd h_33 (show ¬ ((1 : Int) = 0) by decide)
            | exact absurd h_33 (show ¬ ((2 : Int) = 0) by decide)
            | exact absurd h_33 (show ¬ ((3 : Int) = 0) by decide)
            | exact absurd (show (ms1 M 4 0) 4 0 = 0 from rfl) h_33
            | (have e9 : thr3 p q r = 1 := if_pos h_2
               exact wm_zret (pc := 41) G R9 dX5_goes_41 (by decide) ⟨by rw [e9], isB.i0 (by rw [e9]; decide)⟩)
            | (have e9 : thr3 p q r = 2 := (if_neg h_2).trans (if_pos h_10)
               exact wm_zret (pc := 41) G R9 dX5_goes_41 (by decide) ⟨by rw [e9], isB.i0 (by rw [e9]; decide)⟩)
            | (have e9 : thr3 p q r = 3 := (if_neg h_2).trans ((if_neg h_10).trans (if_pos h_18))
               exact wm_zret (pc := 41) G R9 dX5_goes_41 (by decide) ⟨by rw [e9], isB.i0 (by rw [e9]; decide)⟩)
            | (have e9 : thr3 p q r = 0 := (if_neg h_2).trans ((if_neg h_10).trans (if_neg h_18))
               exact wm_zret (pc := 41) G R9 dX5_goes_41 (by decide) ⟨by rw [e9], isB.i1 e9⟩)
    · refine wp_iconst (pc := 13) G dX5_goes_13 ?_
      refine wp_goto (tgt := 26) (pc := 14) G dX5_goes_14 (by decide) ?_
      refine wm_put_4 (pc := 26) G dX5_goes_26 fX5_54_4 ?_
      refine wp_aload_n (pc := 29) G dX5_goes_29 rfl 0 rfl ?_
      refine wm_get_4 (pc := 30) G dX5_goes_30 fX5_54_4 ?_
      refine wp_if_ne (tgt := 40) (pc := 33) G dX5_goes_33 (by first | exact (show -2147483648 ≤ (0 : Int) ∧ (0 : Int) ≤ 2147483647 by decide) | exact (show -2147483648 ≤ (1 : Int) ∧ (1 : Int) ≤ 2147483647 by decide) | exact (show -2147483648 ≤ (2 : Int) ∧ (2 : Int) ≤ 2147483647 by decide) | exact (show -2147483648 ≤ (3 : Int) ∧ (3 : Int) ≤ 2147483647 by decide)) (by decide) (fun h_33 => ?_) (fun h_33 => ?_)
      · refine wp_iconst (pc := 40) G dX5_goes_40 ?_
        first
          | exact absurd h_33 (show ¬ ((1 : Int) = 0) by decide)
          | exact absurd h_33 (show ¬ ((2 : Int) = 0) by decide)
          | exact absurd h_33 (show ¬ ((3 : Int) = 0) by decide)
          | exact absurd (show (ms1 M 4 0) 4 0 = 0 from rfl) h_33
          | (have e9 : thr3 p q r = 1 := if_pos h_2
             exact wm_zret (pc := 41) G R9 dX5_goes_41 (by decide) ⟨by rw [e9], isB.i0 (by rw [e9]; decide)⟩)
          | (have e9 : thr3 p q r = 2 := (if_neg h_2).trans (if_pos h_10)
             exact wm_zret (pc := 41) G R9 dX5_goes_41 (by decide) ⟨by rw [e9], isB.i0 (by rw [e9]; decide)⟩)
          | (have e9 : thr3 p q r = 3 := (if_neg h_2).trans ((if_neg h_10).trans (if_pos h_18))
             exact wm_zret (pc := 41) G R9 dX5_goes_41 (by decide) ⟨by rw [e9], isB.i0 (by rw [e9]; decide)⟩)
          | (have e9 : thr3 p q r = 0 := (if_neg h_2).trans ((if_neg h_10).trans (if_neg h_18))
             exact wm_zret (pc := 41) G R9 dX5_goes_41 (by decide) ⟨by rw [e9], isB.i1 e9⟩)
      · refine wp_iconst (pc := 36) G dX5_goes_36 ?_
        refine wp_goto (tgt := 41) (pc := 37) G dX5_goes_37 (by decide) ?_
        first
          | exact absurd h_33 (show ¬ ((1 : Int) = 0) by decide)
          | exact absurd h_33 (show ¬ ((2 : Int) = 0) by decide)
          | exact absurd h_33 (show ¬ ((3 : Int) = 0) by decide)
          | exact absurd (show (ms1 M 4 0) 4 0 = 0 from rfl) h_33
          | (have e9 : thr3 p q r = 1 := if_pos h_2
             exact wm_zret (pc := 41) G R9 dX5_goes_41 (by decide) ⟨by rw [e9], isB.i0 (by rw [e9]; decide)⟩)
          | (have e9 : thr3 p q r = 2 := (if_neg h_2).trans (if_pos h_10)
             exact wm_zret (pc := 41) G R9 dX5_goes_41 (by decide) ⟨by rw [e9], isB.i0 (by rw [e9]; decide)⟩)
          | (have e9 : thr3 p q r = 3 := (if_neg h_2).trans ((if_neg h_10).trans (if_pos h_18))
             exact wm_zret (pc := 41) G R9 dX5_goes_41 (by decide) ⟨by rw [e9], isB.i0 (by rw [e9]; decide)⟩)
          | (have e9 : thr3 p q r = 0 := (if_neg h_2).trans ((if_neg h_10).trans (if_neg h_18))
             exact wm_zret (pc := 41) G R9 dX5_goes_41 (by decide) ⟨by rw [e9], isB.i1 e9⟩)
  · refine wp_iconst (pc := 5) G dX5_goes_5 ?_
    refine wp_goto (tgt := 26) (pc := 6) G dX5_goes_6 (by decide) ?_
    refine wm_put_4 (pc := 26) G dX5_goes_26 fX5_54_4 ?_
    refine wp_aload_n (pc := 29) G dX5_goes_29 rfl 0 rfl ?_
    refine wm_get_4 (pc := 30) G dX5_goes_30 fX5_54_4 ?_
    refine wp_if_ne (tgt := 40) (pc := 33) G dX5_goes_33 (by first | exact (show -2147483648 ≤ (0 : Int) ∧ (0 : Int) ≤ 2147483647 by decide) | exact (show -2147483648 ≤ (1 : Int) ∧ (1 : Int) ≤ 2147483647 by decide) | exact (show -2147483648 ≤ (2 : Int) ∧ (2 : Int) ≤ 2147483647 by decide) | exact (show -2147483648 ≤ (3 : Int) ∧ (3 : Int) ≤ 2147483647 by decide)) (by decide) (fun h_33 => ?_) (fun h_33 => ?_)
    · refine wp_iconst (pc := 40) G dX5_goes_40 ?_
      first
        | exact absurd h_33 (show ¬ ((1 : Int) = 0) by decide)
        | exact absurd h_33 (show ¬ ((2 : Int) = 0) by decide)
        | exact absurd h_33 (show ¬ ((3 : Int) = 0) by decide)
        | exact absurd (show (ms1 M 4 0) 4 0 = 0 from rfl) h_33
        | (have e9 : thr3 p q r = 1 := if_pos h_2
           exact wm_zret (pc := 41) G R9 dX5_goes_41 (by decide) ⟨by rw [e9], isB.i0 (by rw [e9]; decide)⟩)
        | (have e9 : thr3 p q r = 2 := (if_neg h_2).trans (if_pos h_10)
           exact wm_zret (pc := 41) G R9 dX5_goes_41 (by decide) ⟨by rw [e9], isB.i0 (by rw [e9]; decide)⟩)
        | (have e9 : thr3 p q r = 3 := (if_neg h_2).trans ((if_neg h_10).trans (if_pos h_18))
           exact wm_zret (pc := 41) G R9 dX5_goes_41 (by decide) ⟨by rw [e9], isB.i0 (by rw [e9]; decide)⟩)
        | (have e9 : thr3 p q r = 0 := (if_neg h_2).trans ((if_neg h_10).trans (if_neg h_18))
           exact wm_zret (pc := 41) G R9 dX5_goes_41 (by decide) ⟨by rw [e9], isB.i1 e9⟩)
    · refine wp_iconst (pc := 36) G dX5_goes_36 ?_
      refine wp_goto (tgt := 41) (pc := 37) G dX5_goes_37 (by decide) ?_
      first
        | exact absurd h_33 (show ¬ ((1 : Int) = 0) by decide)
        | exact absurd h_33 (show ¬ ((2 : Int) = 0) by decide)
        | exact absurd h_33 (show ¬ ((3 : Int) = 0) by decide)
        | exact absurd (show (ms1 M 4 0) 4 0 = 0 from rfl) h_33
        | (have e9 : thr3 p q r = 1 := if_pos h_2
           exact wm_zret (pc := 41) G R9 dX5_goes_41 (by decide) ⟨by rw [e9], isB.i0 (by rw [e9]; decide)⟩)
        | (have e9 : thr3 p q r = 2 := (if_neg h_2).trans (if_pos h_10)
           exact wm_zret (pc := 41) G R9 dX5_goes_41 (by decide) ⟨by rw [e9], isB.i0 (by rw [e9]; decide)⟩)
        | (have e9 : thr3 p q r = 3 := (if_neg h_2).trans ((if_neg h_10).trans (if_pos h_18))
           exact wm_zret (pc := 41) G R9 dX5_goes_41 (by decide) ⟨by rw [e9], isB.i0 (by rw [e9]; decide)⟩)
        | (have e9 : thr3 p q r = 0 := (if_neg h_2).trans ((if_neg h_10).trans (if_neg h_18))
           exact wm_zret (pc := 41) G R9 dX5_goes_41 (by decide) ⟨by rw [e9], isB.i1 e9⟩)
set_option maxHeartbeats 4000000 in
theorem ct_append {g : GV} (hg : GOk g) {ad : Nat → Nat} {M : Nat → Int → Int} {c : Int} (hc : -2147483648 ≤ c ∧ c ≤ 2147483647) (hX : okX0 M) : CMi g ad yX5_append cX5_append 2 1 .int [iV c] M (fun z M' => (¬ (0 ≤ c ∧ c ≤ 127) ∧ z = 0 ∧ M' = ms1 M 4 1) ∨ ((0 ≤ c ∧ c ≤ 127) ∧ ¬ M 21 0 < 150 ∧ z = 0 ∧ M' = ms1 M 4 2) ∨ ((0 ≤ c ∧ c ≤ 127) ∧ M 21 0 < 150 ∧ z = M 21 0 + 1 ∧ M' = ms1 (ma1 (ms1 M 4 0) 20 (M 21 0) c) 21 (M 21 0 + 1))) := by
  refine wm_ofi hg (by decide +kernel) (Nat.le_of_ble_eq_true rfl) (fun F G R9 => ?_)
  have G : FxOk g F cX5_append RX5 2 1 := G
  refine wp_loc (L' := [(0, _), (1, _)]) rfl ?_
  obtain ⟨⟨hn0, hn1⟩, ht9⟩ := hX
  refine wp_aload_n (pc := 0) G dX5_append_0 rfl 0 rfl ?_
  refine wp_iload_n (pc := 1) G dX5_append_1 rfl 1 rfl ?_
  refine wp_i2l (pc := 2) G dX5_append_2 (by omega) ?_
  refine wp_lconst0 (pc := 3) G dX5_append_3 ?_
  refine wp_ldc2 (z := 127) (pc := 4) G dX5_append_4 q2446 (by decide +kernel) ?_
  refine ws_calli3 (pc := 7) G dX5_append_7 kX5_65 (ct_in hg (by omega) (by omega) (by omega)) (by decide) (by decide) (Nat.le_of_ble_eq_true rfl) (fun z_7 h_7 => ?_)
  refine wp_aload_n (pc := 10) G dX5_append_10 rfl 0 rfl ?_
  refine wm_get_21 (pc := 11) G dX5_append_11 fX5_288_4 ?_
  refine wp_sipush (pc := 14) G dX5_append_14 (by decide) ?_
  refine wp_icmp_ge (tgt := 24) (pc := 17) G dX5_append_17 (by omega) (by omega) (by decide) (fun h_17 => ?_) (fun h_17 => ?_)
  · refine wp_iconst (pc := 24) G dX5_append_24 ?_
    refine wp_iconst (pc := 25) G dX5_append_25 ?_
    refine wm_calli3 (pc := 26) G dX5_append_26 kX5_183 (ct_goes hg h_7.z (by decide) (by decide)) (by decide) (by decide) (Nat.le_of_ble_eq_true rfl) (fun z_26 M_26 h_26 => ?_)
    obtain ⟨hm26, hb26⟩ := h_26
    subst hm26
    refine wp_if_ne (tgt := 34) (pc := 29) G dX5_append_29 hb26.r (by decide) (fun h_29 => ?_) (fun h_29 => ?_)
    · have h_29 := hb26.t h_29
      have h17 : M 21 0 < 150 := by
        first
        | exact h_17
        | (exfalso; rcases h_7.z with q | q <;> rw [q] at h_29 <;> exact absurd h_29 (by decide))
      refine wp_aload_n (pc := 34) G dX5_append_34 rfl 0 rfl ?_
      refine wm_get_20 (pc := 35) G dX5_append_35 fX5_44_4 ?_
      refine wp_aload_n (pc := 38) G dX5_append_38 rfl 0 rfl ?_
      refine wm_get_21 (pc := 39) G dX5_append_39 fX5_288_4 ?_
      refine wp_iload_n (pc := 42) G dX5_append_42 rfl 1 rfl ?_
      refine wm_ast_20 (pc := 43) G dX5_append_43 (by first | omega | (show 0 ≤ M 21 0 ∧ M 21 0 < _; omega)) ?_
      refine wp_aload_n (pc := 44) G dX5_append_44 rfl 0 rfl ?_
      refine wp_dup (pc := 45) G dX5_append_45 rfl ?_
      refine wm_get_21 (pc := 46) G dX5_append_46 fX5_288_4 ?_
      refine wp_iconst (pc := 49) G dX5_append_49 ?_
      refine wp_iadd (pc := 50) G dX5_append_50 ?_
      refine wm_put_21 (pc := 51) G dX5_append_51 fX5_288_4 ?_
      refine wp_aload_n (pc := 54) G dX5_append_54 rfl 0 rfl ?_
      refine wm_get_21 (pc := 55) G dX5_append_55 fX5_288_4 ?_
      first
        | (exfalso; omega)
        | (have e9 := h_29
           have hcc : z_7 = 1 := h_7.z.elim (fun q => absurd (show thr3 0 1 1 = 0 from q ▸ e9) (by decide)) id
           have h17 : M 21 0 < 150 := h_17
           exact wm_iret (pc := 58) G R9 dX5_append_58 (Or.inr (Or.inr ⟨h_7.t (by omega), h17, rfl, by rw [e9]; rfl⟩)))
        | (have h17 : ¬ M 21 0 < 150 := by omega
           exact wm_iret (pc := 58) G R9 dX5_append_58 (by
            rcases h_7 with q | q
            · refine Or.inr (Or.inl ⟨q.2, h17, rfl, ?_⟩)
              rw [q.1]; rfl
            · refine Or.inl ⟨q.2, rfl, ?_⟩
              rw [q.1]; rfl))
        | exact wm_iret (pc := 58) G R9 dX5_append_58 (by
            rcases h_7 with q | q
            · exfalso; rw [q.1] at h_29; exact h_29 rfl
            · refine Or.inl ⟨q.2, rfl, ?_⟩
              rw [q.1]; rfl)
    · have h_29 := hb26.f h_29
      refine wp_iconst (pc := 32) G dX5_append_32 ?_
      first
        | (exfalso; omega)
        | (have e9 := h_29
           have hcc : z_7 = 1 := h_7.z.elim (fun q => absurd (show thr3 0 1 1 = 0 from q ▸ e9) (by decide)) id
           have h17 : M 21 0 < 150 := h_17
           exact wm_iret (pc := 33) G R9 dX5_append_33 (Or.inr (Or.inr ⟨h_7.t (by omega), h17, rfl, by rw [e9]; rfl⟩)))
        | (have h17 : ¬ M 21 0 < 150 := by omega
           exact wm_iret (pc := 33) G R9 dX5_append_33 (by
            rcases h_7 with q | q
            · refine Or.inr (Or.inl ⟨q.2, h17, rfl, ?_⟩)
              rw [q.1]; rfl
            · refine Or.inl ⟨q.2, rfl, ?_⟩
              rw [q.1]; rfl))
        | exact wm_iret (pc := 33) G R9 dX5_append_33 (by
            rcases h_7 with q | q
            · exfalso; rw [q.1] at h_29; exact h_29 rfl
            · refine Or.inl ⟨q.2, rfl, ?_⟩
              rw [q.1]; rfl)
  · refine wp_iconst (pc := 20) G dX5_append_20 ?_
    refine wp_goto (tgt := 25) (pc := 21) G dX5_append_21 (by decide) ?_
    refine wp_iconst (pc := 25) G dX5_append_25 ?_
    refine wm_calli3 (pc := 26) G dX5_append_26 kX5_183 (ct_goes hg h_7.z (by decide) (by decide)) (by decide) (by decide) (Nat.le_of_ble_eq_true rfl) (fun z_26 M_26 h_26 => ?_)
    obtain ⟨hm26, hb26⟩ := h_26
    subst hm26
    refine wp_if_ne (tgt := 34) (pc := 29) G dX5_append_29 hb26.r (by decide) (fun h_29 => ?_) (fun h_29 => ?_)
    · have h_29 := hb26.t h_29
      have h17 : M 21 0 < 150 := by
        first
        | exact h_17
        | (exfalso; rcases h_7.z with q | q <;> rw [q] at h_29 <;> exact absurd h_29 (by decide))
      refine wp_aload_n (pc := 34) G dX5_append_34 rfl 0 rfl ?_
      refine wm_get_20 (pc := 35) G dX5_append_35 fX5_44_4 ?_
      refine wp_aload_n (pc := 38) G dX5_append_38 rfl 0 rfl ?_
      refine wm_get_21 (pc := 39) G dX5_append_39 fX5_288_4 ?_
      refine wp_iload_n (pc := 42) G dX5_append_42 rfl 1 rfl ?_
      refine wm_ast_20 (pc := 43) G dX5_append_43 (by first | omega | (show 0 ≤ M 21 0 ∧ M 21 0 < _; omega)) ?_
      refine wp_aload_n (pc := 44) G dX5_append_44 rfl 0 rfl ?_
      refine wp_dup (pc := 45) G dX5_append_45 rfl ?_
      refine wm_get_21 (pc := 46) G dX5_append_46 fX5_288_4 ?_
      refine wp_iconst (pc := 49) G dX5_append_49 ?_
      refine wp_iadd (pc := 50) G dX5_append_50 ?_
      refine wm_put_21 (pc := 51) G dX5_append_51 fX5_288_4 ?_
      refine wp_aload_n (pc := 54) G dX5_append_54 rfl 0 rfl ?_
      refine wm_get_21 (pc := 55) G dX5_append_55 fX5_288_4 ?_
      first
        | (exfalso; omega)
        | (have e9 := h_29
           have hcc : z_7 = 1 := h_7.z.elim (fun q => absurd (show thr3 0 1 1 = 0 from q ▸ e9) (by decide)) id
           have h17 : M 21 0 < 150 := h_17
           exact wm_iret (pc := 58) G R9 dX5_append_58 (Or.inr (Or.inr ⟨h_7.t (by omega), h17, rfl, by rw [e9]; rfl⟩)))
        | (have h17 : ¬ M 21 0 < 150 := by omega
           exact wm_iret (pc := 58) G R9 dX5_append_58 (by
            rcases h_7 with q | q
            · refine Or.inr (Or.inl ⟨q.2, h17, rfl, ?_⟩)
              rw [q.1]; rfl
            · refine Or.inl ⟨q.2, rfl, ?_⟩
              rw [q.1]; rfl))
        | exact wm_iret (pc := 58) G R9 dX5_append_58 (by
            rcases h_7 with q | q
            · exfalso; rw [q.1] at h_29; exact h_29 rfl
            · refine Or.inl ⟨q.2, rfl, ?_⟩
              rw [q.1]; rfl)
    · have h_29 := hb26.f h_29
      refine wp_iconst (pc := 32) G dX5_append_32 ?_
      first
        | (exfalso; omega)
        | (have e9 := h_29
           have hcc : z_7 = 1 := h_7.z.elim (fun q => absurd (show thr3 0 1 1 = 0 from q ▸ e9) (by decide)) id
           have h17 : M 21 0 < 150 := h_17
           exact wm_iret (pc := 33) G R9 dX5_append_33 (Or.inr (Or.inr ⟨h_7.t (by omega), h17, rfl, by rw [e9]; rfl⟩)))
        | (have h17 : ¬ M 21 0 < 150 := by omega
           exact wm_iret (pc := 33) G R9 dX5_append_33 (by
            rcases h_7 with q | q
            · refine Or.inr (Or.inl ⟨q.2, h17, rfl, ?_⟩)
              rw [q.1]; rfl
            · refine Or.inl ⟨q.2, rfl, ?_⟩
              rw [q.1]; rfl))
        | exact wm_iret (pc := 33) G R9 dX5_append_33 (by
            rcases h_7 with q | q
            · exfalso; rw [q.1] at h_29; exact h_29 rfl
            · refine Or.inl ⟨q.2, rfl, ?_⟩
              rw [q.1]; rfl)
set_option maxHeartbeats 4000000 in
theorem ct_clearText {g : GV} (hg : GOk g) {ad : Nat → Nat} {M : Nat → Int → Int}  : CMi g ad yX5_clearText cX5_clearText 2 0 .int [] M (fun z M' => z = M 21 0 ∧ M' = ms1 (ms1 M 4 0) 21 0) := by
  refine wm_ofi hg (by decide +kernel) (Nat.le_of_ble_eq_true rfl) (fun F G R9 => ?_)
  have G : FxOk g F cX5_clearText RX5 2 0 := G
  refine wp_loc (L' := [(0, _)]) rfl ?_
  refine wp_aload_n (pc := 0) G dX5_clearText_0 rfl 0 rfl ?_
  refine wp_iconst (pc := 1) G dX5_clearText_1 ?_
  refine wm_put_4 (pc := 2) G dX5_clearText_2 fX5_54_4 ?_
  refine wp_aload_n (pc := 5) G dX5_clearText_5 rfl 0 rfl ?_
  refine wm_get_21 (pc := 6) G dX5_clearText_6 fX5_288_4 ?_
  refine wp_istore_n (L' := [(1, _), (0, _)]) (pc := 9) G dX5_clearText_9 rfl (by decide) rfl ?_
  refine wp_aload_n (pc := 10) G dX5_clearText_10 rfl 1 rfl ?_
  refine wp_iconst (pc := 11) G dX5_clearText_11 ?_
  refine wm_put_21 (pc := 12) G dX5_clearText_12 fX5_288_4 ?_
  refine wp_iload_n (pc := 15) G dX5_clearText_15 rfl 0 rfl ?_
  exact wm_iret (pc := 16) G R9 dX5_clearText_16 ⟨rfl, rfl⟩
def undoM (M : Nat → Int → Int) : Nat → Int → Int := mA (ms1 (ms1 M 4 0) 3 (M 3 0 - 1)) 0 (fun j => M 1 (513 * (M 3 0 - 1) + j))
set_option maxHeartbeats 4000000 in
theorem ct_undo {g : GV} (hg : GOk g) {ad : Nat → Nat} {M : Nat → Int → Int} (h3 : 0 ≤ M 3 0 ∧ M 3 0 ≤ 4) : CMi g ad yX5_undo cX5_undo 2 1 .int [] M (fun z M' => (M 3 0 = 0 ∧ z = 0 ∧ M' = ms1 M 4 1) ∨ (0 < M 3 0 ∧ z = M 3 0 - 1 ∧ M' = undoM M)) := by
  refine wm_ofi hg (by decide +kernel) (Nat.le_of_ble_eq_true rfl) (fun F G R9 => ?_)
  have G : FxOk g F cX5_undo RX5 2 1 := G
  refine wp_loc (L' := [(0, _)]) rfl ?_
  have loop : 0 < M 3 0 → ∀ (n : Nat) (k : Int) (M1 : Nat → Int → Int), (0 ≤ k ∧ k ≤ 513) → (514 ≤ k + n) → (fr [0] (ms1 (ms1 M 4 0) 3 (M 3 0 - 1)) M1) → (∀ j, 0 ≤ j ∧ j < k → M1 0 j = M 1 (513 * (M 3 0 - 1) + j)) → Wp g F [MB g ad M1] 0 0 35 [(1, iV k), (0, .ref (ad 25))] [] := by
    intro hpos n
    induction n with
    | zero =>
      intro k M1 hk hn hf h0
      exfalso
      omega
    | succ n ih =>
      intro k M1 hk hn hf h0
      have e3 : M1 3 0 = M 3 0 - 1 := by rw [hf 3 (by decide)]; rfl
      refine wp_iload_n (pc := 35) G dX5_undo_35 rfl 0 rfl ?_
      refine wp_sipush (pc := 36) G dX5_undo_36 (by decide) ?_
      refine wp_icmp_ge (tgt := 69) (pc := 39) G dX5_undo_39 (by omega) (by omega) (by decide) (fun h_39 => ?_) (fun h_39 => ?_)
      · refine wp_aload_n (pc := 69) G dX5_undo_69 rfl 1 rfl ?_
        refine wm_get_3 (pc := 70) G dX5_undo_70 fX5_58_4 ?_
        refine wm_norm (M' := undoM M) (mEq_1 0 (fun q hq => by
          rw [hf q (by simp [hq])]; unfold undoM; simp only [mA, if_neg hq]) rfl (fun j hj => ?_)) (wm_iret (pc := 73) G R9 dX5_undo_73 (Or.inr ⟨hpos, by show M1 3 0 = _; exact e3, rfl⟩))
        have hj : 0 ≤ j ∧ j < 513 := hj
        exact h0 j (by omega)
      · refine wp_aload_n (pc := 42) G dX5_undo_42 rfl 1 rfl ?_
        refine wm_get_0 (pc := 43) G dX5_undo_43 fX5_7_4 ?_
        refine wp_iload_n (pc := 46) G dX5_undo_46 rfl 0 rfl ?_
        refine wp_aload_n (pc := 47) G dX5_undo_47 rfl 1 rfl ?_
        refine wm_get_1 (pc := 48) G dX5_undo_48 fX5_13_4 ?_
        refine wp_sipush (pc := 51) G dX5_undo_51 (by decide) ?_
        refine wp_aload_n (pc := 54) G dX5_undo_54 rfl 1 rfl ?_
        refine wm_get_3 (pc := 55) G dX5_undo_55 fX5_58_4 ?_
        refine wp_imul (pc := 58) G dX5_undo_58 ?_
        refine wp_iload_n (pc := 59) G dX5_undo_59 rfl 0 rfl ?_
        refine wp_iadd (pc := 60) G dX5_undo_60 ?_
        refine wm_ald_1 (pc := 61) G dX5_undo_61 (by rw [e3]; omega) ?_
        refine wm_ast_0 (pc := 62) G dX5_undo_62 (by omega) ?_
        refine wp_iinc (L' := [(1, _), (0, _)]) (pc := 63) G dX5_undo_63 0 rfl (by decide) rfl ?_
        refine wp_goto (tgt := 35) (pc := 66) G dX5_undo_66 (by decide) ?_
        exact ih (k + 1) _ (by omega) (by omega) (hf.a1 (by decide)) (fun j hj => by
          show fup (M1 0) k (M1 1 (513 * M1 3 0 + k)) j = _
          by_cases e : j = k
          · rw [e, fup_s, e3, hf 1 (by decide)]; rfl
          · rw [fup_n _ _ e]; exact h0 j (by omega))
  refine wp_aload_n (pc := 0) G dX5_undo_0 rfl 0 rfl ?_
  refine wp_aload_n (pc := 1) G dX5_undo_1 rfl 0 rfl ?_
  refine wm_get_3 (pc := 2) G dX5_undo_2 fX5_58_4 ?_
  refine wp_if_le (tgt := 12) (pc := 5) G dX5_undo_5 (by omega) (by decide) (fun h_5 => ?_) (fun h_5 => ?_)
  · refine wp_iconst (pc := 12) G dX5_undo_12 ?_
    refine wp_iconst (pc := 13) G dX5_undo_13 ?_
    refine wp_iconst (pc := 14) G dX5_undo_14 ?_
    refine wm_calli3 (pc := 15) G dX5_undo_15 kX5_183 (ct_goes hg (by decide) (by decide) (by decide)) (by decide) (by decide) (Nat.le_of_ble_eq_true rfl) (fun z_15 M_15 h_15 => ?_)
    obtain ⟨hm15, hb15⟩ := h_15
    subst hm15
    refine wp_if_ne (tgt := 23) (pc := 18) G dX5_undo_18 hb15.r (by decide) (fun h_18 => ?_) (fun h_18 => ?_)
    · have h_18 := hb15.t h_18
      refine wp_aload_n (pc := 23) G dX5_undo_23 rfl 0 rfl ?_
      refine wp_dup (pc := 24) G dX5_undo_24 rfl ?_
      refine wm_get_3 (pc := 25) G dX5_undo_25 fX5_58_4 ?_
      refine wp_iconst (pc := 28) G dX5_undo_28 ?_
      refine wp_isub (pc := 29) G dX5_undo_29 ?_
      refine wm_put_3 (pc := 30) G dX5_undo_30 fX5_58_4 ?_
      refine wp_iconst (pc := 33) G dX5_undo_33 ?_
      refine wp_istore_n (L' := [(1, _), (0, _)]) (pc := 34) G dX5_undo_34 rfl (by decide) rfl ?_
      first
        | exact absurd h_18 (by decide)
        | (have hpos : 0 < M 3 0 := by omega
           have e4 : thr3 1 1 1 = 0 := rfl
           rw [e4]
           exact loop hpos 514 0 _ (by omega) (by omega) fr.rf (fun j hj => by omega))
    · have h_18 := hb15.f h_18
      refine wp_iconst (pc := 21) G dX5_undo_21 ?_
      first
        | exact absurd (show thr3 1 1 1 = 0 from rfl) h_18
        | exact wm_iret (pc := 22) G R9 dX5_undo_22 (Or.inl ⟨by omega, rfl, rfl⟩)
  · refine wp_iconst (pc := 8) G dX5_undo_8 ?_
    refine wp_goto (tgt := 13) (pc := 9) G dX5_undo_9 (by decide) ?_
    refine wp_iconst (pc := 13) G dX5_undo_13 ?_
    refine wp_iconst (pc := 14) G dX5_undo_14 ?_
    refine wm_calli3 (pc := 15) G dX5_undo_15 kX5_183 (ct_goes hg (by decide) (by decide) (by decide)) (by decide) (by decide) (Nat.le_of_ble_eq_true rfl) (fun z_15 M_15 h_15 => ?_)
    obtain ⟨hm15, hb15⟩ := h_15
    subst hm15
    refine wp_if_ne (tgt := 23) (pc := 18) G dX5_undo_18 hb15.r (by decide) (fun h_18 => ?_) (fun h_18 => ?_)
    · have h_18 := hb15.t h_18
      refine wp_aload_n (pc := 23) G dX5_undo_23 rfl 0 rfl ?_
      refine wp_dup (pc := 24) G dX5_undo_24 rfl ?_
      refine wm_get_3 (pc := 25) G dX5_undo_25 fX5_58_4 ?_
      refine wp_iconst (pc := 28) G dX5_undo_28 ?_
      refine wp_isub (pc := 29) G dX5_undo_29 ?_
      refine wm_put_3 (pc := 30) G dX5_undo_30 fX5_58_4 ?_
      refine wp_iconst (pc := 33) G dX5_undo_33 ?_
      refine wp_istore_n (L' := [(1, _), (0, _)]) (pc := 34) G dX5_undo_34 rfl (by decide) rfl ?_
      first
        | exact absurd h_18 (by decide)
        | (have hpos : 0 < M 3 0 := by omega
           have e4 : thr3 1 1 1 = 0 := rfl
           rw [e4]
           exact loop hpos 514 0 _ (by omega) (by omega) fr.rf (fun j hj => by omega))
    · have h_18 := hb15.f h_18
      refine wp_iconst (pc := 21) G dX5_undo_21 ?_
      first
        | exact absurd (show thr3 1 1 1 = 0 from rfl) h_18
        | exact wm_iret (pc := 22) G R9 dX5_undo_22 (Or.inl ⟨by omega, rfl, rfl⟩)
