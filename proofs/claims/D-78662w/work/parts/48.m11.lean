/-! THE MODEL: parts, takes -/
set_option maxRecDepth 100000
theorem okK.f {az : Int → Int} (h : okK az) {k v : Int} (hk : 0 ≤ k ∧ k < 72) (hv : 0 ≤ v ∧ v ≤ 4000000) : okK (fup az (224 + k) v) := by
  refine ⟨fun i hi => ?_, by rw [fup_n _ _ (by omega)]; exact h.2⟩
  obtain ⟨h1, h2, h3, h4, h5⟩ := h.1 i hi
  rw [fup_n _ _ (show 152 + i ≠ 224 + k by omega), fup_n _ _ (show 296 + i ≠ 224 + k by omega), fup_n _ _ (show 368 + i ≠ 224 + k by omega), fup_n _ _ (show 440 + i ≠ 224 + k by omega)]
  refine ⟨h1, ?_, h3, h4, h5⟩
  by_cases e : i = k
  · rw [e, fup_s]; exact hv
  · rw [fup_n _ _ (show 224 + i ≠ 224 + k by omega)]; exact h2
theorem okK.z {az : Int → Int} (h : okK az) {k : Int} (hk : 0 ≤ k ∧ k < 72) : okK (fup (fup (fup (fup (fup az (152 + k) 0) (224 + k) 0) (296 + k) 0) (368 + k) 0) (440 + k) 0) := by
  refine ⟨fun i hi => ?_, by rw [fup_n _ _ (by omega), fup_n _ _ (by omega), fup_n _ _ (by omega), fup_n _ _ (by omega), fup_n _ _ (by omega)]; exact h.2⟩
  obtain ⟨h1, h2, h3, h4, h5⟩ := h.1 i hi
  by_cases e : i = k
  · subst e
    rw [fup_s, fup_n _ _ (show 368 + i ≠ 440 + i by omega), fup_s, fup_n _ _ (show 296 + i ≠ 440 + i by omega), fup_n _ _ (show 296 + i ≠ 368 + i by omega), fup_s, fup_n _ _ (show 224 + i ≠ 440 + i by omega), fup_n _ _ (show 224 + i ≠ 368 + i by omega), fup_n _ _ (show 224 + i ≠ 296 + i by omega), fup_s, fup_n _ _ (show 152 + i ≠ 440 + i by omega), fup_n _ _ (show 152 + i ≠ 368 + i by omega), fup_n _ _ (show 152 + i ≠ 296 + i by omega), fup_n _ _ (show 152 + i ≠ 224 + i by omega), fup_s]
    exact ⟨okS_0, by omega, by omega, by omega, Or.inl rfl⟩
  · have E : ∀ b, (b = 152 ∨ b = 224 ∨ b = 296 ∨ b = 368 ∨ b = 440) → fup (fup (fup (fup (fup az (152 + k) 0) (224 + k) 0) (296 + k) 0) (368 + k) 0) (440 + k) 0 (b + i) = az (b + i) := fun b hb => by
      rw [fup_n _ _ (by omega), fup_n _ _ (by omega), fup_n _ _ (by omega), fup_n _ _ (by omega), fup_n _ _ (by omega)]
    rw [E 152 (by omega), E 224 (by omega), E 296 (by omega), E 368 (by omega), E 440 (by omega)]
    exact ⟨h1, h2, h3, h4, h5⟩
set_option maxHeartbeats 4000000 in
theorem ct_parts {g : GV} (hg : GOk g) {ad : Nat → Nat} {M : Nat → Int → Int} (hA : okA (M 0)) (hw : waterZ (M 0) ≤ 4000000) {k x y : Int} (q : isK (M 0) k) (hj : M 0 (296 + k) ≠ M 0 (368 + k)) (hx : M 0 (296 + k) = x) (hy : M 0 (368 + k) = y) : CMv g ad yX5_parts cX5_parts 4 6 [iV k, iV x, iV y] M (fun M' => fr [0, 6, 7, 8] M M' ∧ M' 0 = partsF (M 0) k) := by
  refine wm_ofv hg (by decide +kernel) (Nat.le_of_ble_eq_true rfl) (fun F G R9 => ?_)
  have G : FxOk g F cX5_parts RX5 4 6 := G
  refine wp_loc (L' := [(0, _), (1, _), (2, _), (3, _)]) rfl ?_
  have hK := hA.K hw
  obtain ⟨r1, r2, n1, n2, e1, e2, -⟩ := hA.two q hj
  rw [hx] at r1 n1 e1
  rw [hy] at r2 n2 e2
  have q1 := q.1
  refine wp_aload_n (pc := 0) G dX5_parts_0 rfl 0 rfl ?_
  refine wm_get_0 (pc := 1) G dX5_parts_1 fX5_7_4 ?_
  refine wp_sipush (pc := 4) G dX5_parts_4 (by decide) ?_
  refine wp_iload_n (pc := 7) G dX5_parts_7 rfl 1 rfl ?_
  refine wp_iadd (pc := 8) G dX5_parts_8 ?_
  refine wp_lconst0 (pc := 9) G dX5_parts_9 ?_
  refine wm_ast_0 (pc := 10) G dX5_parts_10 (by omega) ?_
  refine wp_aload_n (pc := 11) G dX5_parts_11 rfl 0 rfl ?_
  refine wm_get_0 (pc := 12) G dX5_parts_12 fX5_7_4 ?_
  refine wp_sipush (pc := 15) G dX5_parts_15 (by decide) ?_
  refine wp_iload_n (pc := 18) G dX5_parts_18 rfl 1 rfl ?_
  refine wp_iadd (pc := 19) G dX5_parts_19 ?_
  refine wp_lconst0 (pc := 20) G dX5_parts_20 ?_
  refine wm_ast_0 (pc := 21) G dX5_parts_21 (by omega) ?_
  refine wp_aload_n (pc := 22) G dX5_parts_22 rfl 0 rfl ?_
  refine wm_get_0 (pc := 23) G dX5_parts_23 fX5_7_4 ?_
  refine wp_sipush (pc := 26) G dX5_parts_26 (by decide) ?_
  refine wp_iload_n (pc := 29) G dX5_parts_29 rfl 1 rfl ?_
  refine wp_iadd (pc := 30) G dX5_parts_30 ?_
  refine wp_lconst0 (pc := 31) G dX5_parts_31 ?_
  refine wm_ast_0 (pc := 32) G dX5_parts_32 (by omega) ?_
  refine wp_aload_n (pc := 33) G dX5_parts_33 rfl 0 rfl ?_
  refine wm_get_0 (pc := 34) G dX5_parts_34 fX5_7_4 ?_
  refine wp_sipush (pc := 37) G dX5_parts_37 (by decide) ?_
  refine wp_iload_n (pc := 40) G dX5_parts_40 rfl 1 rfl ?_
  refine wp_iadd (pc := 41) G dX5_parts_41 ?_
  refine wp_lconst0 (pc := 42) G dX5_parts_42 ?_
  refine wm_ast_0 (pc := 43) G dX5_parts_43 (by omega) ?_
  refine wp_aload_n (pc := 44) G dX5_parts_44 rfl 0 rfl ?_
  refine wm_get_0 (pc := 45) G dX5_parts_45 fX5_7_4 ?_
  refine wp_sipush (pc := 48) G dX5_parts_48 (by decide) ?_
  refine wp_iload_n (pc := 51) G dX5_parts_51 rfl 1 rfl ?_
  refine wp_iadd (pc := 52) G dX5_parts_52 ?_
  refine wp_lconst0 (pc := 53) G dX5_parts_53 ?_
  refine wm_ast_0 (pc := 54) G dX5_parts_54 (by omega) ?_
  obtain ⟨MA, hMA⟩ : ∃ X, X = ma1 (ma1 (ma1 (ma1 (ma1 M 0 (152 + k) 0) 0 (224 + k) 0) 0 (296 + k) 0) 0 (368 + k) 0) 0 (440 + k) 0 := ⟨_, rfl⟩
  rw [← hMA]
  have zA : MA 0 = fup (fup (fup (fup (fup (M 0) (152 + k) 0) (224 + k) 0) (296 + k) 0) (368 + k) 0) (440 + k) 0 := by rw [hMA]; rfl
  have hFA : fr [0, 6, 7, 8] M MA := by rw [hMA]; exact ((((fr.rf.a1 (by decide)).a1 (by decide)).a1 (by decide)).a1 (by decide)).a1 (by decide)
  have hKA : okK (MA 0) := by rw [zA]; exact hK.z q.1
  have hsA : sameB (M 0) (MA 0) := by rw [zA]; exact ((((sameB.rf.f (by omega)).f (by omega)).f (by omega)).f (by omega)).f (by omega)
  have eA : ∀ i, i ≠ k → 0 ≤ i ∧ i < 72 → MA 0 (152 + i) = M 0 (152 + i) := fun i e hi => by
    rw [zA, fup_n _ _ (by omega), fup_n _ _ (by omega), fup_n _ _ (by omega), fup_n _ _ (by omega), fup_n _ _ (by omega)]
  have eAx := eA x (Ne.symm n1) r1
  refine wp_aload_n (pc := 55) G dX5_parts_55 rfl 0 rfl ?_
  refine wm_get_0 (pc := 56) G dX5_parts_56 fX5_7_4 ?_
  refine wp_sipush (pc := 59) G dX5_parts_59 (by decide) ?_
  refine wp_iload_n (pc := 62) G dX5_parts_62 rfl 2 rfl ?_
  refine wp_iadd (pc := 63) G dX5_parts_63 ?_
  refine wp_aload_n (pc := 64) G dX5_parts_64 rfl 0 rfl ?_
  refine wp_iload_n (pc := 65) G dX5_parts_65 rfl 2 rfl ?_
  refine wm_calll1 (pc := 66) G dX5_parts_66 kX5_127 (ct_capacity hg (hsA.L.ok hA.L) hKA r1 (m := M 0 (152 + x)) eAx) (by decide) (by decide) (Nat.le_of_ble_eq_true rfl) (fun z_66 M_66 h_66 => ?_)
  obtain ⟨hf66, c66, -⟩ := h_66
  have z66 : M_66 0 = MA 0 := hf66 0 (by decide)
  rw [hsA.L.cz hA.L] at c66
  have rc := capZ_r hA.L (M 0 (152 + x))
  refine wm_ast_0 (pc := 69) G dX5_parts_69 (by omega) ?_
  obtain ⟨MB2, hMB⟩ : ∃ X, X = ma1 M_66 0 (224 + x) z_66 := ⟨_, rfl⟩
  rw [← hMB]
  have zB : MB2 0 = fup (MA 0) (224 + x) z_66 := by rw [hMB, ← z66]; rfl
  have v66 : 0 ≤ z_66 ∧ z_66 ≤ 4000000 := by
    have := hA.v x r1
    rw [e1] at this
    omega
  have hFB : fr [0, 6, 7, 8] M MB2 := by rw [hMB]; exact (hFA.tr (hf66.up (by decide))).a1 (by decide)
  have hKB : okK (MB2 0) := by rw [zB]; exact hKA.f r1 v66
  have hsB : sameB (M 0) (MB2 0) := by rw [zB]; exact hsA.f (by omega)
  have eBy : MB2 0 (152 + y) = M 0 (152 + y) := by rw [zB, fup_n _ _ (by omega)]; exact eA y (Ne.symm n2) r2
  refine wp_aload_n (pc := 70) G dX5_parts_70 rfl 0 rfl ?_
  refine wm_get_0 (pc := 71) G dX5_parts_71 fX5_7_4 ?_
  refine wp_sipush (pc := 74) G dX5_parts_74 (by decide) ?_
  refine wp_iload_n (pc := 77) G dX5_parts_77 rfl 3 rfl ?_
  refine wp_iadd (pc := 78) G dX5_parts_78 ?_
  refine wp_aload_n (pc := 79) G dX5_parts_79 rfl 0 rfl ?_
  refine wp_iload_n (pc := 80) G dX5_parts_80 rfl 3 rfl ?_
  refine wm_calll1 (pc := 81) G dX5_parts_81 kX5_127 (ct_capacity hg (hsB.L.ok hA.L) hKB r2 (m := M 0 (152 + y)) eBy) (by decide) (by decide) (Nat.le_of_ble_eq_true rfl) (fun z_81 M_81 h_81 => ?_)
  obtain ⟨hf81, c81, -⟩ := h_81
  have z81 : M_81 0 = MB2 0 := hf81 0 (by decide)
  rw [hsB.L.cz hA.L] at c81
  refine wm_ast_0 (pc := 84) G dX5_parts_84 (by omega) ?_
  refine wp_aload_n (pc := 85) G dX5_parts_85 rfl 0 rfl ?_
  refine wm_get_0 (pc := 86) G dX5_parts_86 fX5_7_4 ?_
  refine wp_sipush (pc := 89) G dX5_parts_89 (by decide) ?_
  refine wp_iload_n (pc := 92) G dX5_parts_92 rfl 2 rfl ?_
  refine wp_iadd (pc := 93) G dX5_parts_93 ?_
  refine wp_lconst1 (pc := 94) G dX5_parts_94 ?_
  refine wm_ast_0 (pc := 95) G dX5_parts_95 (by omega) ?_
  refine wp_aload_n (pc := 96) G dX5_parts_96 rfl 0 rfl ?_
  refine wm_get_0 (pc := 97) G dX5_parts_97 fX5_7_4 ?_
  refine wp_sipush (pc := 100) G dX5_parts_100 (by decide) ?_
  refine wp_iload_n (pc := 103) G dX5_parts_103 rfl 3 rfl ?_
  refine wp_iadd (pc := 104) G dX5_parts_104 ?_
  refine wp_lconst1 (pc := 105) G dX5_parts_105 ?_
  refine wm_ast_0 (pc := 106) G dX5_parts_106 (by omega) ?_
  refine wm_vret (pc := 107) G R9 dX5_parts_107 ⟨(((hFB.tr (hf81.up (by decide))).a1 (by decide)).a1 (by decide)).a1 (by decide), ?_⟩
  show fup (fup (fup (M_81 0) (224 + y) z_81) (440 + x) 1) (440 + y) 1 = partsF (M 0) k
  rw [z81, zB, zA, c66, c81]
  unfold partsF
  rw [hx, hy]
theorem take_p {n : Nat} {az : Int → Int} {k r : Int} {Z : Int → Int} (h : okA az) (q : isK az k) (hr : 0 ≤ r ∧ r ≤ az (224 + k)) (hZ : takeO n az k r = some Z) : okA Z ∧ sameB az Z ∧ (∀ j, j < 152 → Z j = az j) ∧ waterZ Z = waterZ az - r ∧ sm (usF Z) 72 ≤ sm (usF az) 72 ∧ oth az Z k := by
  obtain ⟨Z2, z1, z2, z3, z4, z5, z6, z7⟩ := take_ends (sm (usF az) 72).toNat az k r h q hr (by omega)
  have e : Z = Z2 := Takes.u ⟨n, hZ⟩ ⟨_, z1⟩
  rw [e]
  exact ⟨z2, z3, z4, z5, z6, z7⟩
theorem take_le {az : Int → Int} (h : okA az) {k : Int} (q : isK az k) (hj : az (296 + k) ≠ az (368 + k)) : leastZ az k ≤ az (224 + k) ∧ 0 ≤ leastZ az k := by
  obtain ⟨hx, hy, -, -, -, -, e3⟩ := h.two q hj
  have := (h.j k q.1 hj).2.2.2.2.2.2
  have := h.v _ hx
  have := h.v _ hy
  omega
theorem least_r {az : Int → Int} (hL : okL az) (k : Int) : -2 ≤ leastZ az k ∧ leastZ az k ≤ 7128 := by
  have h1 := capZ_r hL (az (152 + az (296 + k)))
  have h2 := capZ_r hL (az (152 + az (368 + k)))
  unfold leastZ
  split <;> omega
set_option maxHeartbeats 4000000 in
theorem ct_takes {g : GV} (hg : GOk g) {ad : Nat → Nat} {M : Nat → Int → Int} (hA : okA (M 0)) (hw : waterZ (M 0) ≤ 4000000) {k am : Int} (q : isK (M 0) k) (hr : 0 ≤ am ∧ am ≤ M 0 (224 + k)) : CMv g ad yX5_takes cX5_takes 17 7 [iV k, jV am] M (fun M' => fr [0, 6, 7, 8, 9, 10] M M' ∧ ∃ Z, Takes (M 0) k am Z ∧ M' 0 = fup Z 4 (Z 4 + am)) := by
  refine wm_ofv hg (by decide +kernel) (Nat.le_of_ble_eq_true rfl) (fun F G R9 => ?_)
  have G : FxOk g F cX5_takes RX5 17 7 := G
  refine wp_loc (L' := [(0, _), (1, _), (2, _)]) rfl ?_
  obtain ⟨Z, hT, -⟩ := take_ok hA q hr
  have hT9 := hT
  obtain ⟨n9, hn9⟩ := hT9
  have hq9 := q.1
  have hu9 := (sm_r (b := 1) 72 (fun k _ => us_r (az := M 0) k)).2
  have fin : ∀ (Z : Int → Int) (M2 : Nat → Int → Int), (Takes (M 0) k am Z) → (M2 0 = Z) → (fr [0, 6, 7, 8, 9, 10] M M2) → Wp g F [MB g ad M2] 0 0 17 [(4, iV 0), (0, .ref (ad 25)), (2, jV am)] [] := by
    intro Z M2 hT z2 hf2
    refine wp_iload (pc := 17) G dX5_takes_17 0 rfl ?_
    refine wp_if_le (tgt := 277) (pc := 19) G dX5_takes_19 (by omega) (by decide) (fun h_19 => ?_) (fun h_19 => ?_)
    · refine wp_aload_n (pc := 277) G dX5_takes_277 rfl 1 rfl ?_
      refine wm_get_0 (pc := 278) G dX5_takes_278 fX5_7_4 ?_
      refine wp_iconst (pc := 281) G dX5_takes_281 ?_
      refine wp_dup2 (pc := 282) G dX5_takes_282 rfl rfl ?_
      refine wm_ald_0 (pc := 283) G dX5_takes_283 (by omega) ?_
      refine wp_lload_n (pc := 284) G dX5_takes_284 rfl 2 rfl ?_
      refine wp_ladd (pc := 285) G dX5_takes_285 ?_
      refine wm_ast_0 (pc := 286) G dX5_takes_286 (by omega) ?_
      exact wm_vret (pc := 287) G R9 dX5_takes_287 ⟨hf2.a1 (by decide), Z, hT, by rw [← z2]; rfl⟩
    · exact absurd h_19 (by omega)
  have loop : ∀ (n : Nat) (d k r : Int) (Z : Int → Int) (M1 : Nat → Int → Int), (okA (M1 0)) → (isK (M1 0) k) → (0 ≤ r ∧ r ≤ M1 0 (224 + k)) → (waterZ (M1 0) ≤ 4000000) → (0 ≤ d ∧ d + sm (usF (M1 0)) 72 ≤ 72) → (M1 9 d = k) → (M1 10 d = r) → (takeO n (M1 0) k r = some Z) → (∀ M2, M2 0 = Z → fr [0, 6, 7, 8, 9, 10] M1 M2 → (∀ j, 0 ≤ j ∧ j < d → M2 9 j = M1 9 j ∧ M2 10 j = M1 10 j) → Wp g F [MB g ad M2] 0 0 17 [(4, iV d), (0, .ref (ad 25)), (2, jV am)] []) → Wp g F [MB g ad M1] 0 0 17 [(4, iV (d + 1)), (0, .ref (ad 25)), (2, jV am)] [] := by
    intro n
    induction n with
    | zero =>
      intro d k r Z M1 hA1 q hr hw hd h9 h10 hZ hc
      exfalso
      unfold takeO at hZ; cases hZ
    | succ n ih =>
      intro d k r Z M1 hA1 q hr hw hd h9 h10 hZ hc
      have hK1 := hA1.K hw
      have q1 := q.1
      have hus := us_k hA1 q
      have rl := least_r hA1.L k
      have rv := (hK1.1 k q.1).2.1
      have ed : d + 1 + -1 = d := by omega
      refine wp_iload (pc := 17) G dX5_takes_17 0 rfl ?_
      refine wp_if_le (tgt := 277) (pc := 19) G dX5_takes_19 (by omega) (by decide) (fun h_19 => ?_) (fun h_19 => ?_)
      · exfalso; omega
      · refine wp_iinc (L' := [(4, _), (0, _), (2, _)]) (pc := 22) G dX5_takes_22 0 rfl (by decide) rfl ?_
        rw [ed]
        refine wp_aload_n (pc := 25) G dX5_takes_25 rfl 1 rfl ?_
        refine wm_get_9 (pc := 26) G dX5_takes_26 fX5_22_4 ?_
        refine wp_iload (pc := 29) G dX5_takes_29 0 rfl ?_
        refine wm_ald_9 (pc := 31) G dX5_takes_31 (by omega) ?_
        refine wp_istore (L' := [(5, _), (4, _), (0, _), (2, _)]) (pc := 32) G dX5_takes_32 (by decide) rfl ?_
        refine wp_aload_n (pc := 34) G dX5_takes_34 rfl 2 rfl ?_
        refine wm_get_10 (pc := 35) G dX5_takes_35 fX5_26_4 ?_
        refine wp_iload (pc := 38) G dX5_takes_38 1 rfl ?_
        refine wm_ald_10 (pc := 40) G dX5_takes_40 (by omega) ?_
        refine wp_lstore (L' := [(6, _), (5, _), (4, _), (0, _), (2, _)]) (pc := 41) G dX5_takes_41 (by decide) rfl ?_
        rw [h9, h10]
        refine wp_aload_n (pc := 43) G dX5_takes_43 rfl 3 rfl ?_
        refine wp_iload (pc := 44) G dX5_takes_44 1 rfl ?_
        refine wm_calll1 (pc := 46) G dX5_takes_46 kX5_142 (ct_leastVolume hg hA1.L hK1 q.1) (by decide) (by decide) (Nat.le_of_ble_eq_true rfl) (fun z_46 M_46 h_46 => ?_)
        obtain ⟨hf46, e46⟩ := h_46
        have z46 : M_46 0 = M1 0 := hf46 0 (by decide)
        have g46 : M_46 0 (224 + k) = M1 0 (224 + k) := by rw [z46]
        refine wp_lstore (L' := [(8, _), (6, _), (5, _), (4, _), (0, _), (2, _)]) (pc := 49) G dX5_takes_49 (by decide) rfl ?_
        refine wp_aload_n (pc := 51) G dX5_takes_51 rfl 4 rfl ?_
        refine wm_get_0 (pc := 52) G dX5_takes_52 fX5_7_4 ?_
        refine wp_sipush (pc := 55) G dX5_takes_55 (by decide) ?_
        refine wp_iload (pc := 58) G dX5_takes_58 2 rfl ?_
        refine wp_iadd (pc := 60) G dX5_takes_60 ?_
        refine wm_ald_0 (pc := 61) G dX5_takes_61 (by omega) ?_
        refine wp_lload (pc := 62) G dX5_takes_62 1 rfl ?_
        refine wp_lsub (pc := 64) G dX5_takes_64 ?_
        refine wp_lload (pc := 65) G dX5_takes_65 0 rfl ?_
        refine wp_lcmp_lt (tgt := 90) (pc := 67) G dX5_takes_67 dX5_takes_68 (by omega) (by omega) (by decide) (fun h_67 => ?_) (fun h_67 => ?_)
        · have hl : ¬ leastZ (M1 0) k ≤ M1 0 (224 + k) - r := by omega
          obtain ⟨hj, kf, ko, hne, m1, m2, nf, vf⟩ := part_two hA1 q hr hl
          obtain ⟨hx, hy, n1, n2, x1, x2, x3⟩ := hA1.two q hj
          obtain ⟨c1, c2, c3⟩ := pt_ct hA1 q hj
          have hP2 := hA1.part q hj
          have j4 := hA1.j k q.1 hj
          have tl := take_le hA1 q hj
          have kf1 := kf.1
          have ko1 := ko.1
          have hus2 := us_k hP2 kf
          have rr : 0 ≤ rstZ (M1 0) k r ∧ rstZ (M1 0) k r ≤ 4000000 := by unfold rstZ; omega
          refine wp_lload (pc := 90) G dX5_takes_90 1 rfl ?_
          refine wp_aload_n (pc := 92) G dX5_takes_92 rfl 4 rfl ?_
          refine wm_get_0 (pc := 93) G dX5_takes_93 fX5_7_4 ?_
          refine wp_sipush (pc := 96) G dX5_takes_96 (by decide) ?_
          refine wp_iload (pc := 99) G dX5_takes_99 2 rfl ?_
          refine wp_iadd (pc := 101) G dX5_takes_101 ?_
          refine wm_ald_0 (pc := 102) G dX5_takes_102 (by omega) ?_
          refine wp_lload (pc := 103) G dX5_takes_103 0 rfl ?_
          refine wp_lsub (pc := 105) G dX5_takes_105 ?_
          refine wp_lsub (pc := 106) G dX5_takes_106 ?_
          refine wp_lstore (L' := [(10, _), (8, _), (6, _), (5, _), (4, _), (0, _), (2, _)]) (pc := 107) G dX5_takes_107 (by decide) rfl ?_
          have er : r - (M_46 0 (224 + k) - z_46) = rstZ (M1 0) k r := by unfold rstZ; rw [g46, e46]
          rw [er]
          refine wp_aload_n (pc := 109) G dX5_takes_109 rfl 5 rfl ?_
          refine wm_get_0 (pc := 110) G dX5_takes_110 fX5_7_4 ?_
          refine wp_sipush (pc := 113) G dX5_takes_113 (by decide) ?_
          refine wp_iload (pc := 116) G dX5_takes_116 3 rfl ?_
          refine wp_iadd (pc := 118) G dX5_takes_118 ?_
          refine wm_ald_0 (pc := 119) G dX5_takes_119 (by omega) ?_
          refine wp_l2i (pc := 120) G dX5_takes_120 ?_
          refine wp_istore (L' := [(12, _), (10, _), (8, _), (6, _), (5, _), (4, _), (0, _), (2, _)]) (pc := 121) G dX5_takes_121 (by decide) rfl ?_
          refine wp_aload_n (pc := 123) G dX5_takes_123 rfl 6 rfl ?_
          refine wm_get_0 (pc := 124) G dX5_takes_124 fX5_7_4 ?_
          refine wp_sipush (pc := 127) G dX5_takes_127 (by decide) ?_
          refine wp_iload (pc := 130) G dX5_takes_130 4 rfl ?_
          refine wp_iadd (pc := 132) G dX5_takes_132 ?_
          refine wm_ald_0 (pc := 133) G dX5_takes_133 (by omega) ?_
          refine wp_l2i (pc := 134) G dX5_takes_134 ?_
          refine wp_istore (L' := [(13, _), (12, _), (10, _), (8, _), (6, _), (5, _), (4, _), (0, _), (2, _)]) (pc := 135) G dX5_takes_135 (by decide) rfl ?_
          rw [z46]
          refine wp_aload_n (pc := 137) G dX5_takes_137 rfl 7 rfl ?_
          refine wp_iload (pc := 138) G dX5_takes_138 5 rfl ?_
          refine wp_iload (pc := 140) G dX5_takes_140 1 rfl ?_
          refine wp_iload (pc := 142) G dX5_takes_142 0 rfl ?_
          refine wm_callv3 (pc := 144) G dX5_takes_144 kX5_145 (ct_parts hg (by rw [z46]; exact hA1) (by rw [z46]; exact hw) (by rw [z46]; exact q) (by rw [z46]; exact hj) (by rw [z46]) (by rw [z46])) (by decide) (by decide) (Nat.le_of_ble_eq_true rfl) (fun M_144 h_144 => ?_)
          obtain ⟨hf144, z144⟩ := h_144
          rw [z46] at z144
          have ex : M_144 0 (152 + M1 0 (296 + k)) = M1 0 (152 + M1 0 (296 + k)) := by rw [z144, pt_152 q.1 hx hy hx, if_neg (Ne.symm n1)]
          have ey : M_144 0 (152 + M1 0 (368 + k)) = M1 0 (152 + M1 0 (368 + k)) := by rw [z144, pt_152 q.1 hx hy hy, if_neg (Ne.symm n2)]
          have v144 : M_144 0 (224 + fstZ (M1 0) k) = M1 0 (224 + fstZ (M1 0) k) := by rw [z144]; exact vf
          have vfr := hK1.1 _ kf.1
          refine wp_aload_n (pc := 147) G dX5_takes_147 rfl 7 rfl ?_
          refine wm_get_0 (pc := 148) G dX5_takes_148 fX5_7_4 ?_
          refine wp_sipush (pc := 151) G dX5_takes_151 (by decide) ?_
          refine wp_iload (pc := 154) G dX5_takes_154 1 rfl ?_
          refine wp_iadd (pc := 156) G dX5_takes_156 ?_
          refine wm_ald_0 (pc := 157) G dX5_takes_157 (by omega) ?_
          refine ws_calli1 (pc := 158) G dX5_takes_158 kX5_111 (ct_lowest hg (by rw [ex]; exact (hA1.S _ hx).1) (by rw [ex]; exact j4.2.1)) (by decide) (by decide) (Nat.le_of_ble_eq_true rfl) (fun z_158 h_158 => ?_)
          rw [ex] at h_158
          have r158 := h_158.1
          have e158 := h_158.e (hA1.S _ hx).1 j4.2.1
          refine wp_aload_n (pc := 161) G dX5_takes_161 rfl 7 rfl ?_
          refine wm_get_0 (pc := 162) G dX5_takes_162 fX5_7_4 ?_
          refine wp_sipush (pc := 165) G dX5_takes_165 (by decide) ?_
          refine wp_iload (pc := 168) G dX5_takes_168 0 rfl ?_
          refine wp_iadd (pc := 170) G dX5_takes_170 ?_
          refine wm_ald_0 (pc := 171) G dX5_takes_171 (by omega) ?_
          refine ws_calli1 (pc := 172) G dX5_takes_172 kX5_111 (ct_lowest hg (by rw [ey]; exact (hA1.S _ hy).1) (by rw [ey]; exact j4.2.2.1)) (by decide) (by decide) (Nat.le_of_ble_eq_true rfl) (fun z_172 h_172 => ?_)
          rw [ey] at h_172
          have r172 := h_172.1
          have e172 := h_172.e (hA1.S _ hy).1 j4.2.2.1
          have J185 : ∀ (f : Int), (f = fstZ (M1 0) k) → Wp g F [MB g ad M_144] 0 0 185 [(4, iV d), (0, .ref (ad 25)), (2, jV am), (10, jV (rstZ (M1 0) k r)), (12, iV (M1 0 (296 + k))), (13, iV (M1 0 (368 + k)))] [iV f] := by
            intro f hf
            subst hf
            have J220 : ∀ (mu : Int), (mu = muchZ (M1 0) k r) → Wp g F [MB g ad M_144] 0 0 220 [(4, iV d), (0, .ref (ad 25)), (2, jV am), (10, jV (rstZ (M1 0) k r)), (12, iV (M1 0 (296 + k))), (13, iV (M1 0 (368 + k))), (14, iV (fstZ (M1 0) k))] [jV mu] := by
              intro mu hmu
              refine wp_lstore (L' := [(15, _), (4, _), (0, _), (2, _), (10, _), (12, _), (13, _), (14, _)]) (pc := 220) G dX5_takes_220 (by decide) rfl ?_
              refine wp_aload_n (pc := 222) G dX5_takes_222 rfl 2 rfl ?_
              refine wm_get_9 (pc := 223) G dX5_takes_223 fX5_22_4 ?_
              refine wp_iload (pc := 226) G dX5_takes_226 1 rfl ?_
              refine wp_iload (pc := 228) G dX5_takes_228 5 rfl ?_
              refine wp_iload (pc := 230) G dX5_takes_230 6 rfl ?_
              refine wp_iadd (pc := 232) G dX5_takes_232 ?_
              refine wp_iload (pc := 233) G dX5_takes_233 7 rfl ?_
              refine wp_isub (pc := 235) G dX5_takes_235 ?_
              refine wm_ast_9 (pc := 236) G dX5_takes_236 (by omega) ?_
              refine wp_aload_n (pc := 237) G dX5_takes_237 rfl 2 rfl ?_
              refine wm_get_10 (pc := 238) G dX5_takes_238 fX5_26_4 ?_
              refine wp_iload (pc := 241) G dX5_takes_241 1 rfl ?_
              refine wp_lload (pc := 243) G dX5_takes_243 4 rfl ?_
              refine wp_lload (pc := 245) G dX5_takes_245 0 rfl ?_
              refine wp_lsub (pc := 247) G dX5_takes_247 ?_
              refine wm_ast_10 (pc := 248) G dX5_takes_248 (by omega) ?_
              refine wp_aload_n (pc := 249) G dX5_takes_249 rfl 2 rfl ?_
              refine wm_get_9 (pc := 250) G dX5_takes_250 fX5_22_4 ?_
              refine wp_iload (pc := 253) G dX5_takes_253 1 rfl ?_
              refine wp_iconst (pc := 255) G dX5_takes_255 ?_
              refine wp_iadd (pc := 256) G dX5_takes_256 ?_
              refine wp_iload (pc := 257) G dX5_takes_257 7 rfl ?_
              refine wm_ast_9 (pc := 259) G dX5_takes_259 (by omega) ?_
              refine wp_aload_n (pc := 260) G dX5_takes_260 rfl 2 rfl ?_
              refine wm_get_10 (pc := 261) G dX5_takes_261 fX5_26_4 ?_
              refine wp_iload (pc := 264) G dX5_takes_264 1 rfl ?_
              refine wp_iconst (pc := 266) G dX5_takes_266 ?_
              refine wp_iadd (pc := 267) G dX5_takes_267 ?_
              refine wp_lload (pc := 268) G dX5_takes_268 0 rfl ?_
              refine wm_ast_10 (pc := 270) G dX5_takes_270 (by omega) ?_
              refine wp_iinc (L' := [(4, _), (15, _), (0, _), (2, _), (10, _), (12, _), (13, _), (14, _)]) (pc := 271) G dX5_takes_271 1 rfl (by decide) rfl ?_
              refine wp_goto (tgt := 17) (pc := 274) G dX5_takes_274 (by decide) ?_
              refine wp_sub (L' := [(4, _), (0, _), (2, _)]) [0, 2, 3] rfl ?_
              obtain ⟨M5, hM5⟩ : ∃ X, X = ma1 (ma1 (ma1 (ma1 M_144 9 d (M1 0 (296 + k) + M1 0 (368 + k) - fstZ (M1 0) k)) 10 d (rstZ (M1 0) k r - mu)) 9 (d + 1) (fstZ (M1 0) k)) 10 (d + 1) mu := ⟨_, rfl⟩
              rw [← hM5]
              have f5 : fr [9, 10] M_144 M5 := by rw [hM5]; exact (((fr.rf.a1 (by decide)).a1 (by decide)).a1 (by decide)).a1 (by decide)
              have z5 : M5 0 = partsF (M1 0) k := by rw [f5 0 (by decide)]; exact z144
              have e9 : ∀ j, M5 9 j = if j = d + 1 then fstZ (M1 0) k else if j = d then M1 0 (296 + k) + M1 0 (368 + k) - fstZ (M1 0) k else M1 9 j := fun j => by
                have : M5 9 = fup (fup (M_144 9) d (M1 0 (296 + k) + M1 0 (368 + k) - fstZ (M1 0) k)) (d + 1) (fstZ (M1 0) k) := by rw [hM5]; rfl
                rw [this, hf144 9 (by decide), hf46 9 (by decide)]
                by_cases a : j = d + 1
                · rw [if_pos a, a, fup_s]
                · rw [if_neg a, fup_n _ _ a]
                  by_cases b : j = d
                  · rw [if_pos b, b, fup_s]
                  · rw [if_neg b, fup_n _ _ b]
              have e10 : ∀ j, M5 10 j = if j = d + 1 then mu else if j = d then rstZ (M1 0) k r - mu else M1 10 j := fun j => by
                have : M5 10 = fup (fup (M_144 10) d (rstZ (M1 0) k r - mu)) (d + 1) mu := by rw [hM5]; rfl
                rw [this, hf144 10 (by decide), hf46 10 (by decide)]
                by_cases a : j = d + 1
                · rw [if_pos a, a, fup_s]
                · rw [if_neg a, fup_n _ _ a]
                  by_cases b : j = d
                  · rw [if_pos b, b, fup_s]
                  · rw [if_neg b, fup_n _ _ b]
              have F15 : fr [0, 6, 7, 8, 9, 10] M1 M5 := ((hf46.up (by decide)).tr (hf144.up (by decide))).tr (f5.up (by decide))
              have hZ2 := hZ
              unfold takeO at hZ2
              rw [if_neg hl] at hZ2
              have ed2 : d + 2 = d + 1 + 1 := by omega
              rw [ed2]
              cases eb : takeO n (partsF (M1 0) k) (fstZ (M1 0) k) (muchZ (M1 0) k r) with
              | none => rw [eb] at hZ2; cases hZ2
              | some b =>
                rw [eb] at hZ2
                have hZ3 : takeO n b (M1 0 (296 + k) + M1 0 (368 + k) - fstZ (M1 0) k) (rstZ (M1 0) k r - muchZ (M1 0) k r) = some Z := hZ2
                obtain ⟨b1, b2, b3, b4, b5, b6⟩ := take_p hP2 kf m1 eb
                have bo := b6 _ ko.1 ko.2 hne
                refine ih (d + 1) (fstZ (M1 0) k) mu b M5 (by rw [z5]; exact hP2) (by rw [z5]; exact kf) (by rw [z5, hmu]; exact m1) (by rw [z5]; omega) (by rw [z5]; omega) (by rw [e9, if_pos rfl]) (by rw [e10, if_pos rfl]) (by rw [z5, hmu]; exact eb) (fun M6 z6 hf6 hs6 => ?_)
                refine ih d (M1 0 (296 + k) + M1 0 (368 + k) - fstZ (M1 0) k) (rstZ (M1 0) k r - mu) Z M6 (by rw [z6]; exact b1) (by rw [z6]; exact ⟨ko.1, bo.1⟩) (by rw [z6, hmu, bo.2.2.1]; exact m2) (by rw [z6]; omega) (by rw [z6]; omega) ?_ ?_ (by rw [z6, hmu]; exact hZ3) (fun M7 z7 hf7 hs7 => ?_)
                · rw [(hs6 d (by omega)).1, e9, if_neg (by omega), if_pos rfl]
                · rw [(hs6 d (by omega)).2, e10, if_neg (by omega), if_pos rfl]
                · refine hc M7 z7 ((F15.tr hf6).tr hf7) (fun j hj => ?_)
                  obtain ⟨g1, g2⟩ := hs7 j hj
                  obtain ⟨g3, g4⟩ := hs6 j (by omega)
                  rw [g1, g2, g3, g4, e9, e10, if_neg (by omega), if_neg (by omega), if_neg (by omega), if_neg (by omega)]
                  exact ⟨rfl, rfl⟩
            refine wp_istore (L' := [(14, _), (4, _), (0, _), (2, _), (10, _), (12, _), (13, _)]) (pc := 185) G dX5_takes_185 (by decide) rfl ?_
            refine wp_lload (pc := 187) G dX5_takes_187 4 rfl ?_
            refine wp_aload_n (pc := 189) G dX5_takes_189 rfl 2 rfl ?_
            refine wm_get_0 (pc := 190) G dX5_takes_190 fX5_7_4 ?_
            refine wp_sipush (pc := 193) G dX5_takes_193 (by decide) ?_
            refine wp_iload (pc := 196) G dX5_takes_196 0 rfl ?_
            refine wp_iadd (pc := 198) G dX5_takes_198 ?_
            refine wm_ald_0 (pc := 199) G dX5_takes_199 (by omega) ?_
            refine wp_lcmp_ge (tgt := 209) (pc := 200) G dX5_takes_200 dX5_takes_201 (by omega) (by omega) (by decide) (fun h_200 => ?_) (fun h_200 => ?_)
            · refine wp_aload_n (pc := 209) G dX5_takes_209 rfl 2 rfl ?_
              refine wm_get_0 (pc := 210) G dX5_takes_210 fX5_7_4 ?_
              refine wp_sipush (pc := 213) G dX5_takes_213 (by decide) ?_
              refine wp_iload (pc := 216) G dX5_takes_216 0 rfl ?_
              refine wp_iadd (pc := 218) G dX5_takes_218 ?_
              refine wm_ald_0 (pc := 219) G dX5_takes_219 (by omega) ?_
              refine wp_sub (L' := [(4, _), (0, _), (2, _), (10, _), (12, _), (13, _), (14, _)]) [1, 2, 3, 4, 5, 6, 0] rfl ?_
              first
                | (have e9 : muchZ (M1 0) k r = rstZ (M1 0) k r := if_pos (by rw [← v144]; exact h_200)
                   exact J220 _ e9.symm)
                | (have e9 : muchZ (M1 0) k r = M1 0 (224 + fstZ (M1 0) k) := if_neg (by rw [← v144]; omega)
                   exact J220 _ (v144.trans e9.symm))
            · refine wp_lload (pc := 204) G dX5_takes_204 4 rfl ?_
              refine wp_goto (tgt := 220) (pc := 206) G dX5_takes_206 (by decide) ?_
              refine wp_sub (L' := [(4, _), (0, _), (2, _), (10, _), (12, _), (13, _), (14, _)]) [1, 2, 3, 4, 5, 6, 0] rfl ?_
              first
                | (have e9 : muchZ (M1 0) k r = rstZ (M1 0) k r := if_pos (by rw [← v144]; exact h_200)
                   exact J220 _ e9.symm)
                | (have e9 : muchZ (M1 0) k r = M1 0 (224 + fstZ (M1 0) k) := if_neg (by rw [← v144]; omega)
                   exact J220 _ (v144.trans e9.symm))
          refine wp_icmp_ge (tgt := 183) (pc := 175) G dX5_takes_175 (by omega) (by omega) (by decide) (fun h_175 => ?_) (fun h_175 => ?_)
          · refine wp_iload (pc := 183) G dX5_takes_183 0 rfl ?_
            refine wp_sub (L' := [(4, _), (0, _), (2, _), (10, _), (12, _), (13, _)]) [6, 7, 8, 2, 1, 0] rfl ?_
            first
              | (have e9 : fstZ (M1 0) k = M1 0 (296 + k) := if_pos (by omega)
                 exact J185 _ e9.symm)
              | (have e9 : fstZ (M1 0) k = M1 0 (368 + k) := if_neg (by omega)
                 exact J185 _ e9.symm)
          · refine wp_iload (pc := 178) G dX5_takes_178 1 rfl ?_
            refine wp_goto (tgt := 185) (pc := 180) G dX5_takes_180 (by decide) ?_
            refine wp_sub (L' := [(4, _), (0, _), (2, _), (10, _), (12, _), (13, _)]) [6, 7, 8, 2, 1, 0] rfl ?_
            first
              | (have e9 : fstZ (M1 0) k = M1 0 (296 + k) := if_pos (by omega)
                 exact J185 _ e9.symm)
              | (have e9 : fstZ (M1 0) k = M1 0 (368 + k) := if_neg (by omega)
                 exact J185 _ e9.symm)
        · refine wp_aload_n (pc := 71) G dX5_takes_71 rfl 4 rfl ?_
          refine wm_get_0 (pc := 72) G dX5_takes_72 fX5_7_4 ?_
          refine wp_sipush (pc := 75) G dX5_takes_75 (by decide) ?_
          refine wp_iload (pc := 78) G dX5_takes_78 2 rfl ?_
          refine wp_iadd (pc := 80) G dX5_takes_80 ?_
          refine wp_dup2 (pc := 81) G dX5_takes_81 rfl rfl ?_
          refine wm_ald_0 (pc := 82) G dX5_takes_82 (by omega) ?_
          refine wp_lload (pc := 83) G dX5_takes_83 1 rfl ?_
          refine wp_lsub (pc := 85) G dX5_takes_85 ?_
          refine wm_ast_0 (pc := 86) G dX5_takes_86 (by omega) ?_
          refine wp_goto (tgt := 274) (pc := 87) G dX5_takes_87 (by decide) ?_
          refine wp_goto (tgt := 17) (pc := 274) G dX5_takes_274 (by decide) ?_
          refine wp_sub (L' := [(4, _), (0, _), (2, _)]) [3, 4, 5] rfl ?_
          refine hc _ ?_ ((hf46.up (by decide)).a1 (by decide)) (fun j hj => ⟨by show M_46 9 j = _; rw [hf46 9 (by decide)], by show M_46 10 j = _; rw [hf46 10 (by decide)]⟩)
          have hZ2 := hZ
          unfold takeO at hZ2
          rw [if_pos (by omega)] at hZ2
          show fup (M_46 0) (224 + k) (M_46 0 (224 + k) - r) = Z
          rw [z46]
          exact Option.some.inj hZ2
  refine wp_iconst (pc := 0) G dX5_takes_0 ?_
  refine wp_istore (L' := [(4, _), (0, _), (1, _), (2, _)]) (pc := 1) G dX5_takes_1 (by decide) rfl ?_
  refine wp_aload_n (pc := 3) G dX5_takes_3 rfl 1 rfl ?_
  refine wm_get_9 (pc := 4) G dX5_takes_4 fX5_22_4 ?_
  refine wp_iconst (pc := 7) G dX5_takes_7 ?_
  refine wp_iload_n (pc := 8) G dX5_takes_8 rfl 2 rfl ?_
  refine wm_ast_9 (pc := 9) G dX5_takes_9 (by omega) ?_
  refine wp_aload_n (pc := 10) G dX5_takes_10 rfl 1 rfl ?_
  refine wm_get_10 (pc := 11) G dX5_takes_11 fX5_26_4 ?_
  refine wp_iconst (pc := 14) G dX5_takes_14 ?_
  refine wp_lload_n (pc := 15) G dX5_takes_15 rfl 3 rfl ?_
  refine wm_ast_10 (pc := 16) G dX5_takes_16 (by omega) ?_
  refine wp_sub (L' := [(4, _), (0, _), (2, _)]) [0, 1, 3] rfl ?_
  obtain ⟨M5, hM5⟩ : ∃ X, X = ma1 (ma1 M 9 0 k) 10 0 am := ⟨_, rfl⟩
  rw [← hM5]
  have f5 : fr [0, 6, 7, 8, 9, 10] M M5 := by rw [hM5]; exact (fr.rf.a1 (by decide)).a1 (by decide)
  have z5 : M5 0 = M 0 := by rw [hM5]; rfl
  exact loop n9 0 k am Z M5 (by rw [z5]; exact hA) (by rw [z5]; exact q) (by rw [z5]; exact hr) (by rw [z5]; exact hw) (by rw [z5]; omega) (by rw [hM5]; rfl) (by rw [hM5]; rfl) (by rw [z5]; exact hn9) (fun M2 z2 hf2 _ => fin Z M2 hT z2 (f5.tr hf2))
