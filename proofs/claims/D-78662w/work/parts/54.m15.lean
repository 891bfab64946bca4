/-! THE CALLS OF THE MODEL: pour, rain, evaporate, take -/
set_option maxRecDepth 100000
theorem okA.w0 {az : Int → Int} (h : okA az) : 0 ≤ waterZ az := by
  obtain ⟨Z, _, _, _, _, _, _, hw⟩ := chR_ok (P := fun _ => 0) (V := fun _ => 0) h 0 (fun _ _ => Int.le_refl _)
  obtain ⟨Z, h1, _, _, _, _, _, _, hw⟩ := chR_ok (P := fun _ => 0) (V := fun _ => 0) h 0 (fun _ _ => Int.le_refl _)
  rw [show Z = az from h1] at hw
  exact hw
theorem okA.p5 {az : Int → Int} (h : okA az) (j v : Int) (hj : j = 3 ∨ j = 4 ∨ j = 5) : okA (fup az j v) ∧ sameB az (fup az j v) ∧ waterZ (fup az j v) = waterZ az := by
  have hb : sameB az (fup az j v) := sameB.rf.f (by omega)
  refine ⟨h.to hb (fun k hk => fup_n _ _ (by omega)), hb, ?_⟩
  rw [water_sm, water_sm]
  exact sm_e 72 (fun i hi => by unfold wtF; rw [fup_n _ _ (by omega), fup_n _ _ (by omega)])
theorem Pours.p {az Z : Int → Int} (h : okA az) {c r : Int} (hr : 0 ≤ r) (q : Pours az (lakeZ az c) r Z) : okA Z ∧ sameB az Z ∧ Z 4 = az 4 ∧ Z 5 = az 5 ∧ waterZ Z + Z 3 = waterZ az + az 3 + r ∧ az 3 ≤ Z 3 ∧ 0 ≤ waterZ Z := by
  obtain ⟨Z2, z1, z2⟩ := pour_ok h c hr
  rw [q.u z1]
  exact z2
/-- r has fallen on each of the first n cells, d of it counted -/
def rnR (az : Int → Int) (r d : Int) : Nat → (Int → Int) → Prop
  | 0, Z => Z = az
  | n + 1, Z => ∃ Y, rnR az r d n Y ∧ Pours (fup Y 5 (Y 5 + d)) (lakeZ (fup Y 5 (Y 5 + d)) n) r Z
theorem rnR_p {az : Int → Int} (h : okA az) {r d : Int} (hr : 0 ≤ r) : ∀ (n : Nat) (Z : Int → Int), rnR az r d n Z → okA Z ∧ sameB az Z ∧ Z 4 = az 4 ∧ Z 5 = az 5 + n * d ∧ waterZ Z + Z 3 = waterZ az + az 3 + n * r ∧ az 3 ≤ Z 3
  | 0, Z, e => by
    have e : Z = az := e
    rw [e]
    exact ⟨h, sameB.rf, rfl, by simp, by simp, Int.le_refl _⟩
  | n + 1, Z, ⟨Y, h1, h2⟩ => by
    obtain ⟨y1, y2, y3, y4, y5, y6⟩ := rnR_p h hr n Y h1
    obtain ⟨a1, a2, a3⟩ := y1.p5 5 (Y 5 + d) (by omega)
    obtain ⟨z1, z2, z3, z4, z5, z6, z7⟩ := h2.p a1 hr
    rw [fup_n _ _ (by omega)] at z3
    rw [fup_s] at z4
    rw [fup_n _ _ (by omega), a3] at z5
    rw [fup_n _ _ (by omega)] at z6
    have e1 : ((n + 1 : Nat) : Int) * d = n * d + d := by rw [Int.natCast_add, Int.add_mul]; simp
    have e2 : ((n + 1 : Nat) : Int) * r = n * r + r := by rw [Int.natCast_add, Int.add_mul]; simp
    exact ⟨z1, (y2.tr a2).tr z2, z3.trans y3, by omega, by omega, by omega⟩
set_option maxHeartbeats 4000000 in
theorem ct_pour {g : GV} (hg : GOk g) {ad : Nat → Nat} {M : Nat → Int → Int} (hA : okA (M 0)) (hW : waterZ (M 0) ≤ 1000000) (h3 : 0 ≤ M 3 0 ∧ M 3 0 ≤ 4) {c : Int} (hc : -2147483648 ≤ c ∧ c ≤ 2147483647) {r : Int} (hr : -2147483648 ≤ r ∧ r ≤ 2147483647) : CMi g ad yX5_pour cX5_pour 5 8 .int [iV c, iV r] M (fun z M' => (cod (isC (M 0) c) (0 ≤ r ∧ r ≤ 100000) (waterZ (M 0) + r ≤ 1000000) (M' 4 0) ∧ fr SC M M') ∨ ((isC (M 0) c) ∧ (0 ≤ r ∧ r ≤ 100000) ∧ (waterZ (M 0) + r ≤ 1000000) ∧ mtd M M' ∧ z = M' 0 3 - M 0 3 ∧ Pours (fup (M 0) 5 (M 0 5 + r)) (lakeZ (fup (M 0) 5 (M 0 5 + r)) c) r (M' 0))) := by
  refine wm_ofi hg (by decide +kernel) (Nat.le_of_ble_eq_true rfl) (fun F G R9 => ?_)
  have G : FxOk g F cX5_pour RX5 5 8 := G
  refine wp_loc (L' := [(0, _), (1, _), (2, _)]) rfl ?_
  have hw0 := hA.w0
  refine wp_aload_n (pc := 0) G dX5_pour_0 rfl 0 rfl ?_
  refine wp_aload_n (pc := 1) G dX5_pour_1 rfl 0 rfl ?_
  refine wp_iload_n (pc := 2) G dX5_pour_2 rfl 1 rfl ?_
  refine wm_calli1 (pc := 3) G dX5_pour_3 kX5_73 (ct_isCell hg hA.L hc) (by decide) (by decide) (Nat.le_of_ble_eq_true rfl) (fun z_3 M_3 h_3 => ?_)
  obtain ⟨rfl, h_3⟩ := h_3
  refine wp_iload_n (pc := 6) G dX5_pour_6 rfl 2 rfl ?_
  refine wp_i2l (pc := 7) G dX5_pour_7 (by omega) ?_
  refine wp_lconst0 (pc := 8) G dX5_pour_8 ?_
  refine wp_ldc2 (z := 100000) (pc := 9) G dX5_pour_9 q2317 (by decide +kernel) ?_
  refine ws_calli3 (pc := 12) G dX5_pour_12 kX5_65 (ct_in hg (by omega) (by omega) (by omega)) (by decide) (by decide) (Nat.le_of_ble_eq_true rfl) (fun z_12 h_12 => ?_)
  refine wp_aload_n (pc := 15) G dX5_pour_15 rfl 0 rfl ?_
  refine wm_calll0 (pc := 16) G dX5_pour_16 kX5_230 (ct_water hg (hA.K (by omega))) (by decide) (by decide) (Nat.le_of_ble_eq_true rfl) (fun z_16 M_16 h_16 => ?_)
  obtain ⟨rfl, h_16⟩ := h_16
  subst h_16
  refine wp_iload_n (pc := 19) G dX5_pour_19 rfl 2 rfl ?_
  refine wp_i2l (pc := 20) G dX5_pour_20 (by omega) ?_
  refine wp_ladd (pc := 21) G dX5_pour_21 ?_
  refine wp_ldc2 (z := 1000000) (pc := 22) G dX5_pour_22 q2322 (by decide +kernel) ?_
  refine wp_lcmp_gt (tgt := 33) (pc := 25) G dX5_pour_25 dX5_pour_26 (by omega) (by omega) (by decide) (fun h_25 => ?_) (fun h_25 => ?_)
  · refine wp_iconst (pc := 33) G dX5_pour_33 ?_
    refine wm_calli3 (pc := 34) G dX5_pour_34 kX5_183 (ct_goes hg h_3.z h_12.z (by decide)) (by decide) (by decide) (Nat.le_of_ble_eq_true rfl) (fun z_34 M_34 h_34 => ?_)
    obtain ⟨hm34, hb34⟩ := h_34
    have gc := goes_c (P := isC (M 0) c) (Q := 0 ≤ r ∧ r ≤ 100000) (R := waterZ (M 0) + r ≤ 1000000) h_3 h_12 (by first | exact isB.i1 (by omega) | exact isB.i0 (by omega))
    have f4 : fr SC M M_34 := by rw [hm34]; exact fr.rf.s1 (by decide)
    have g4 : ∀ t, M_34 = ms1 M 4 t → M_34 4 0 = t := fun t q => by rw [q]; rfl
    have g4 := g4 _ hm34
    refine wp_if_ne (tgt := 42) (pc := 37) G dX5_pour_37 hb34.r (by decide) (fun h_37 => ?_) (fun h_37 => ?_)
    · have h_37 := hb34.t h_37
      have gc := (gc.resolve_left (fun q => q.1 h_37)).2
      refine wp_aload_n (pc := 42) G dX5_pour_42 rfl 0 rfl ?_
      refine wm_callv0 (pc := 43) G dX5_pour_43 kX5_187 (ct_save hg (by rw [hm34]; exact h3)) (by decide) (by decide) (Nat.le_of_ble_eq_true rfl) (fun M_43 h_43 => ?_)
      rw [hm34] at h_43
      obtain ⟨s0, sm0⟩ := sv_p h_43 h_37
      refine wp_aload_n (pc := 46) G dX5_pour_46 rfl 0 rfl ?_
      refine wm_get_0 (pc := 47) G dX5_pour_47 fX5_7_4 ?_
      refine wp_iconst (pc := 50) G dX5_pour_50 ?_
      refine wm_ald_0 (pc := 51) G dX5_pour_51 (by omega) ?_
      rw [s0]
      refine wp_lstore_n (L' := [(3, _), (0, _), (1, _), (2, _)]) (pc := 52) G dX5_pour_52 rfl (by decide) rfl ?_
      refine wp_aload_n (pc := 53) G dX5_pour_53 rfl 1 rfl ?_
      refine wm_get_0 (pc := 54) G dX5_pour_54 fX5_7_4 ?_
      refine wp_iconst (pc := 57) G dX5_pour_57 ?_
      refine wp_dup2 (pc := 58) G dX5_pour_58 rfl rfl ?_
      refine wm_ald_0 (pc := 59) G dX5_pour_59 (by omega) ?_
      refine wp_iload_n (pc := 60) G dX5_pour_60 rfl 3 rfl ?_
      refine wp_i2l (pc := 61) G dX5_pour_61 (by omega) ?_
      refine wp_ladd (pc := 62) G dX5_pour_62 ?_
      refine wm_ast_0 (pc := 63) G dX5_pour_63 (by omega) ?_
      obtain ⟨M2, hM2⟩ : ∃ X, X = ma1 M_43 0 5 (M_43 0 5 + r) := ⟨_, rfl⟩
      rw [← hM2]
      have z2 : M2 0 = fup (M 0) 5 (M 0 5 + r) := by rw [hM2, ← s0]; rfl
      have hf2 : fr [0] M_43 M2 := by rw [hM2]; exact fr.rf.a1 (by decide)
      have p5 := hA.p5 5 (M 0 5 + r) (by omega)
      refine wp_aload_n (pc := 64) G dX5_pour_64 rfl 1 rfl ?_
      refine wp_iload_n (pc := 65) G dX5_pour_65 rfl 2 rfl ?_
      refine wp_iload_n (pc := 66) G dX5_pour_66 rfl 3 rfl ?_
      refine wp_i2l (pc := 67) G dX5_pour_67 (by omega) ?_
      refine wm_callv2 (pc := 68) G dX5_pour_68 kX5_177 (ct_pours hg (by rw [z2]; exact p5.1) (by rw [z2]; exact (p5.2.1.L.c c).mpr gc.1) (by omega) (by rw [z2, p5.2.2]; omega)) (by decide) (by decide) (Nat.le_of_ble_eq_true rfl) (fun M_68 h_68 => ?_)
      obtain ⟨hf68, p68⟩ := h_68
      rw [z2] at p68
      refine wp_aload_n (pc := 71) G dX5_pour_71 rfl 1 rfl ?_
      refine wm_get_0 (pc := 72) G dX5_pour_72 fX5_7_4 ?_
      refine wp_iconst (pc := 75) G dX5_pour_75 ?_
      refine wm_ald_0 (pc := 76) G dX5_pour_76 (by omega) ?_
      refine wp_lload_n (pc := 77) G dX5_pour_77 rfl 0 rfl ?_
      refine wp_lsub (pc := 78) G dX5_pour_78 ?_
      refine wp_l2i (pc := 79) G dX5_pour_79 ?_
      exact wm_iret (pc := 80) G R9 dX5_pour_80 (Or.inr ⟨gc.1, gc.2.1, gc.2.2, (sm0.fr hf2 (by decide)).fr hf68 (by decide), rfl, p68⟩)
    · have h_37 := hb34.f h_37
      refine wp_iconst (pc := 40) G dX5_pour_40 ?_
      exact wm_iret (pc := 41) G R9 dX5_pour_41 (Or.inl ⟨by rw [g4]; exact (gc.resolve_right (fun q => h_37 q.1)).2, f4⟩)
  · refine wp_iconst (pc := 29) G dX5_pour_29 ?_
    refine wp_goto (tgt := 34) (pc := 30) G dX5_pour_30 (by decide) ?_
    refine wm_calli3 (pc := 34) G dX5_pour_34 kX5_183 (ct_goes hg h_3.z h_12.z (by decide)) (by decide) (by decide) (Nat.le_of_ble_eq_true rfl) (fun z_34 M_34 h_34 => ?_)
    obtain ⟨hm34, hb34⟩ := h_34
    have gc := goes_c (P := isC (M 0) c) (Q := 0 ≤ r ∧ r ≤ 100000) (R := waterZ (M 0) + r ≤ 1000000) h_3 h_12 (by first | exact isB.i1 (by omega) | exact isB.i0 (by omega))
    have f4 : fr SC M M_34 := by rw [hm34]; exact fr.rf.s1 (by decide)
    have g4 : ∀ t, M_34 = ms1 M 4 t → M_34 4 0 = t := fun t q => by rw [q]; rfl
    have g4 := g4 _ hm34
    refine wp_if_ne (tgt := 42) (pc := 37) G dX5_pour_37 hb34.r (by decide) (fun h_37 => ?_) (fun h_37 => ?_)
    · have h_37 := hb34.t h_37
      have gc := (gc.resolve_left (fun q => q.1 h_37)).2
      refine wp_aload_n (pc := 42) G dX5_pour_42 rfl 0 rfl ?_
      refine wm_callv0 (pc := 43) G dX5_pour_43 kX5_187 (ct_save hg (by rw [hm34]; exact h3)) (by decide) (by decide) (Nat.le_of_ble_eq_true rfl) (fun M_43 h_43 => ?_)
      rw [hm34] at h_43
      obtain ⟨s0, sm0⟩ := sv_p h_43 h_37
      refine wp_aload_n (pc := 46) G dX5_pour_46 rfl 0 rfl ?_
      refine wm_get_0 (pc := 47) G dX5_pour_47 fX5_7_4 ?_
      refine wp_iconst (pc := 50) G dX5_pour_50 ?_
      refine wm_ald_0 (pc := 51) G dX5_pour_51 (by omega) ?_
      rw [s0]
      refine wp_lstore_n (L' := [(3, _), (0, _), (1, _), (2, _)]) (pc := 52) G dX5_pour_52 rfl (by decide) rfl ?_
      refine wp_aload_n (pc := 53) G dX5_pour_53 rfl 1 rfl ?_
      refine wm_get_0 (pc := 54) G dX5_pour_54 fX5_7_4 ?_
      refine wp_iconst (pc := 57) G dX5_pour_57 ?_
      refine wp_dup2 (pc := 58) G dX5_pour_58 rfl rfl ?_
      refine wm_ald_0 (pc := 59) G dX5_pour_59 (by omega) ?_
      refine wp_iload_n (pc := 60) G dX5_pour_60 rfl 3 rfl ?_
      refine wp_i2l (pc := 61) G dX5_pour_61 (by omega) ?_
      refine wp_ladd (pc := 62) G dX5_pour_62 ?_
      refine wm_ast_0 (pc := 63) G dX5_pour_63 (by omega) ?_
      obtain ⟨M2, hM2⟩ : ∃ X, X = ma1 M_43 0 5 (M_43 0 5 + r) := ⟨_, rfl⟩
      rw [← hM2]
      have z2 : M2 0 = fup (M 0) 5 (M 0 5 + r) := by rw [hM2, ← s0]; rfl
      have hf2 : fr [0] M_43 M2 := by rw [hM2]; exact fr.rf.a1 (by decide)
      have p5 := hA.p5 5 (M 0 5 + r) (by omega)
      refine wp_aload_n (pc := 64) G dX5_pour_64 rfl 1 rfl ?_
      refine wp_iload_n (pc := 65) G dX5_pour_65 rfl 2 rfl ?_
      refine wp_iload_n (pc := 66) G dX5_pour_66 rfl 3 rfl ?_
      refine wp_i2l (pc := 67) G dX5_pour_67 (by omega) ?_
      refine wm_callv2 (pc := 68) G dX5_pour_68 kX5_177 (ct_pours hg (by rw [z2]; exact p5.1) (by rw [z2]; exact (p5.2.1.L.c c).mpr gc.1) (by omega) (by rw [z2, p5.2.2]; omega)) (by decide) (by decide) (Nat.le_of_ble_eq_true rfl) (fun M_68 h_68 => ?_)
      obtain ⟨hf68, p68⟩ := h_68
      rw [z2] at p68
      refine wp_aload_n (pc := 71) G dX5_pour_71 rfl 1 rfl ?_
      refine wm_get_0 (pc := 72) G dX5_pour_72 fX5_7_4 ?_
      refine wp_iconst (pc := 75) G dX5_pour_75 ?_
      refine wm_ald_0 (pc := 76) G dX5_pour_76 (by omega) ?_
      refine wp_lload_n (pc := 77) G dX5_pour_77 rfl 0 rfl ?_
      refine wp_lsub (pc := 78) G dX5_pour_78 ?_
      refine wp_l2i (pc := 79) G dX5_pour_79 ?_
      exact wm_iret (pc := 80) G R9 dX5_pour_80 (Or.inr ⟨gc.1, gc.2.1, gc.2.2, (sm0.fr hf2 (by decide)).fr hf68 (by decide), rfl, p68⟩)
    · have h_37 := hb34.f h_37
      refine wp_iconst (pc := 40) G dX5_pour_40 ?_
      exact wm_iret (pc := 41) G R9 dX5_pour_41 (Or.inl ⟨by rw [g4]; exact (gc.resolve_right (fun q => h_37 q.1)).2, f4⟩)
set_option maxHeartbeats 4000000 in
theorem ct_rain {g : GV} (hg : GOk g) {ad : Nat → Nat} {M : Nat → Int → Int} (hA : okA (M 0)) (hW : waterZ (M 0) ≤ 1000000) (h3 : 0 ≤ M 3 0 ∧ M 3 0 ≤ 4) {r : Int} (hr : -2147483648 ≤ r ∧ r ≤ 2147483647) : CMi g ad yX5_rain cX5_rain 5 8 .int [iV r] M (fun z M' => (cod (0 ≤ r ∧ r ≤ 1000) (waterZ (M 0) + r * mny (M 0) ≤ 1000000) True (M' 4 0) ∧ fr SC M M') ∨ ((0 ≤ r ∧ r ≤ 1000) ∧ (waterZ (M 0) + r * mny (M 0) ≤ 1000000) ∧ mtd M M' ∧ z = M' 0 3 - M 0 3 ∧ rnR (M 0) r r (mny (M 0)).toNat (M' 0))) := by
  refine wm_ofi hg (by decide +kernel) (Nat.le_of_ble_eq_true rfl) (fun F G R9 => ?_)
  have G : FxOk g F cX5_rain RX5 5 8 := G
  refine wp_loc (L' := [(0, _), (1, _)]) rfl ?_
  have hw0 := hA.w0
  have hmm := hA.L.m
  have hrm : -80000000000 ≤ r * mny (M 0) ∧ r * mny (M 0) ≤ 80000000000 := by
    rcases (show 0 ≤ r ∨ r < 0 by omega) with q | q
    · have h1 := Int.mul_le_mul_of_nonneg_left hmm.2 q
      have h2 := Int.mul_nonneg q (show 0 ≤ mny (M 0) by omega)
      omega
    · have h1 := Int.mul_le_mul_of_nonneg_left hmm.2 (show 0 ≤ -r by omega)
      have h2 := Int.mul_nonneg (show 0 ≤ -r by omega) (show 0 ≤ mny (M 0) by omega)
      rw [Int.neg_mul] at h1 h2
      omega
  refine wp_aload_n (pc := 0) G dX5_rain_0 rfl 0 rfl ?_
  refine wp_iload_n (pc := 1) G dX5_rain_1 rfl 1 rfl ?_
  refine wp_i2l (pc := 2) G dX5_rain_2 (by omega) ?_
  refine wp_lconst0 (pc := 3) G dX5_rain_3 ?_
  refine wp_ldc2 (z := 1000) (pc := 4) G dX5_rain_4 q2327 (by decide +kernel) ?_
  refine ws_calli3 (pc := 7) G dX5_rain_7 kX5_65 (ct_in hg (by omega) (by omega) (by omega)) (by decide) (by decide) (Nat.le_of_ble_eq_true rfl) (fun z_7 h_7 => ?_)
  refine wp_aload_n (pc := 10) G dX5_rain_10 rfl 0 rfl ?_
  refine wm_calll0 (pc := 11) G dX5_rain_11 kX5_230 (ct_water hg (hA.K (by omega))) (by decide) (by decide) (Nat.le_of_ble_eq_true rfl) (fun z_11 M_11 h_11 => ?_)
  obtain ⟨rfl, h_11⟩ := h_11
  subst h_11
  refine wp_iload_n (pc := 14) G dX5_rain_14 rfl 1 rfl ?_
  refine wp_i2l (pc := 15) G dX5_rain_15 (by omega) ?_
  refine wp_aload_n (pc := 16) G dX5_rain_16 rfl 0 rfl ?_
  refine wm_calli0 (pc := 17) G dX5_rain_17 kX5_61 (ct_many hg) (by decide) (by decide) (Nat.le_of_ble_eq_true rfl) (fun z_17 M_17 h_17 => ?_)
  obtain ⟨rfl, h_17⟩ := h_17
  subst h_17
  refine wp_i2l (pc := 20) G dX5_rain_20 (by omega) ?_
  refine wp_lmul (pc := 21) G dX5_rain_21 ?_
  refine wp_ladd (pc := 22) G dX5_rain_22 ?_
  refine wp_ldc2 (z := 1000000) (pc := 23) G dX5_rain_23 q2322 (by decide +kernel) ?_
  refine wp_lcmp_gt (tgt := 34) (pc := 26) G dX5_rain_26 dX5_rain_27 (by omega) (by omega) (by decide) (fun h_26 => ?_) (fun h_26 => ?_)
  · refine wp_iconst (pc := 34) G dX5_rain_34 ?_
    refine wp_iconst (pc := 35) G dX5_rain_35 ?_
    refine wm_calli3 (pc := 36) G dX5_rain_36 kX5_183 (ct_goes hg h_7.z (by decide) (by decide)) (by decide) (by decide) (Nat.le_of_ble_eq_true rfl) (fun z_36 M_36 h_36 => ?_)
    obtain ⟨hm36, hb36⟩ := h_36
    have gc := goes_c (P := 0 ≤ r ∧ r ≤ 1000) (Q := waterZ (M 0) + r * mny (M 0) ≤ 1000000) (R := True) h_7 (by first | exact isB.i1 (by omega) | exact isB.i0 (by omega)) (isB.i1 trivial)
    have f4 : fr SC M M_36 := by rw [hm36]; exact fr.rf.s1 (by decide)
    have g4 : ∀ t, M_36 = ms1 M 4 t → M_36 4 0 = t := fun t q => by rw [q]; rfl
    have g4 := g4 _ hm36
    refine wp_if_ne (tgt := 44) (pc := 39) G dX5_rain_39 hb36.r (by decide) (fun h_39 => ?_) (fun h_39 => ?_)
    · have h_39 := hb36.t h_39
      have gc := (gc.resolve_left (fun q => q.1 h_39)).2
      refine wp_aload_n (pc := 44) G dX5_rain_44 rfl 0 rfl ?_
      refine wm_callv0 (pc := 45) G dX5_rain_45 kX5_187 (ct_save hg (by rw [hm36]; exact h3)) (by decide) (by decide) (Nat.le_of_ble_eq_true rfl) (fun M_45 h_45 => ?_)
      rw [hm36] at h_45
      obtain ⟨s0, sm0⟩ := sv_p h_45 h_39
      refine wp_aload_n (pc := 48) G dX5_rain_48 rfl 0 rfl ?_
      refine wm_get_0 (pc := 49) G dX5_rain_49 fX5_7_4 ?_
      refine wp_iconst (pc := 52) G dX5_rain_52 ?_
      refine wm_ald_0 (pc := 53) G dX5_rain_53 (by omega) ?_
      rw [s0]
      refine wp_lstore_n (L' := [(2, _), (0, _), (1, _)]) (pc := 54) G dX5_rain_54 rfl (by decide) rfl ?_
      refine wp_iconst (pc := 55) G dX5_rain_55 ?_
      refine wp_istore (L' := [(4, _), (2, _), (0, _), (1, _)]) (pc := 56) G dX5_rain_56 (by decide) rfl ?_
      refine wp_sub (L' := [(4, _), (0, _), (1, _), (2, _)]) [0, 2, 3, 1] rfl ?_
      have loop : ∀ (n : Nat) (k : Int) (M1 : Nat → Int → Int), (0 ≤ k ∧ k ≤ mny (M 0)) → (mny (M 0) + 1 ≤ k + n) → (fr [0, 6, 7, 8] M_45 M1) → (rnR (M 0) r r k.toNat (M1 0)) → Wp g F [MB g ad M1] 0 0 58 [(4, iV k), (0, .ref (ad 25)), (1, iV r), (2, jV (M 0 3))] [] := by
        intro n
        induction n with
        | zero =>
          intro k M1 hk hn hf hz
          exfalso
          omega
        | succ n ih =>
          intro k M1 hk hn hf hz
          obtain ⟨y1, y2, y3, y4, y5, y6⟩ := rnR_p hA gc.1.1 _ _ hz
          have ekr : ((k.toNat : Nat) : Int) * r ≤ 36000 := by
            have h1 : ((k.toNat : Nat) : Int) * r ≤ 36 * r := Int.mul_le_mul_of_nonneg_right (by omega) gc.1.1
            omega
          refine wp_iload (pc := 58) G dX5_rain_58 0 rfl ?_
          refine wp_aload_n (pc := 60) G dX5_rain_60 rfl 1 rfl ?_
          refine wm_calli0 (pc := 61) G dX5_rain_61 kX5_61 (ct_many hg) (by decide) (by decide) (Nat.le_of_ble_eq_true rfl) (fun z_61 M_61 h_61 => ?_)
          obtain ⟨rfl, h_61⟩ := h_61
          rw [y2.L.m] at h_61
          subst h_61
          refine wp_icmp_ge (tgt := 92) (pc := 64) G dX5_rain_64 (by omega) (by omega) (by decide) (fun h_64 => ?_) (fun h_64 => ?_)
          · refine wp_aload_n (pc := 92) G dX5_rain_92 rfl 1 rfl ?_
            refine wm_get_0 (pc := 93) G dX5_rain_93 fX5_7_4 ?_
            refine wp_iconst (pc := 96) G dX5_rain_96 ?_
            refine wm_ald_0 (pc := 97) G dX5_rain_97 (by omega) ?_
            refine wp_lload_n (pc := 98) G dX5_rain_98 rfl 3 rfl ?_
            refine wp_lsub (pc := 99) G dX5_rain_99 ?_
            refine wp_l2i (pc := 100) G dX5_rain_100 ?_
            exact wm_iret (pc := 101) G R9 dX5_rain_101 (Or.inr ⟨gc.1, gc.2.1, sm0.fr hf (by decide), rfl, by rw [← show k = mny (M 0) by omega]; exact hz⟩)
          · refine wp_aload_n (pc := 67) G dX5_rain_67 rfl 1 rfl ?_
            refine wm_get_0 (pc := 68) G dX5_rain_68 fX5_7_4 ?_
            refine wp_iconst (pc := 71) G dX5_rain_71 ?_
            refine wp_dup2 (pc := 72) G dX5_rain_72 rfl rfl ?_
            refine wm_ald_0 (pc := 73) G dX5_rain_73 (by omega) ?_
            refine wp_iload_n (pc := 74) G dX5_rain_74 rfl 2 rfl ?_
            refine wp_i2l (pc := 75) G dX5_rain_75 (by omega) ?_
            refine wp_ladd (pc := 76) G dX5_rain_76 ?_
            refine wm_ast_0 (pc := 77) G dX5_rain_77 (by omega) ?_
            obtain ⟨M2, hM2⟩ : ∃ X, X = ma1 M1 0 5 (M1 0 5 + r) := ⟨_, rfl⟩
            rw [← hM2]
            have z2 : M2 0 = fup (M1 0) 5 (M1 0 5 + r) := by rw [hM2]; rfl
            have hf2 : fr [0] M1 M2 := by rw [hM2]; exact fr.rf.a1 (by decide)
            have p5 := y1.p5 5 (M1 0 5 + r) (by omega)
            refine wp_aload_n (pc := 78) G dX5_rain_78 rfl 1 rfl ?_
            refine wp_iload (pc := 79) G dX5_rain_79 0 rfl ?_
            refine wp_iload_n (pc := 81) G dX5_rain_81 rfl 2 rfl ?_
            refine wp_i2l (pc := 82) G dX5_rain_82 (by omega) ?_
            refine wm_callv2 (pc := 83) G dX5_rain_83 kX5_177 (ct_pours hg (by rw [z2]; exact p5.1) (by rw [z2]; exact (p5.2.1.L.c k).mpr ((y2.L.c k).mpr ⟨hk.1, h_64⟩)) (by omega) (by rw [z2, p5.2.2]; omega)) (by decide) (by decide) (Nat.le_of_ble_eq_true rfl) (fun M_83 h_83 => ?_)
            obtain ⟨hf83, p83⟩ := h_83
            rw [z2] at p83
            refine wp_iinc (L' := [(4, _), (0, _), (1, _), (2, _)]) (pc := 86) G dX5_rain_86 0 rfl (by decide) rfl ?_
            refine wp_goto (tgt := 58) (pc := 89) G dX5_rain_89 (by decide) ?_
            refine ih (k + 1) M_83 (by omega) (by omega) ((hf.tr (hf2.up (by decide))).tr hf83) ?_
            rw [tn_s hk.1]
            refine ⟨M1 0, hz, ?_⟩
            rw [show ((k.toNat : Nat) : Int) = k by omega]
            exact p83
      exact loop 38 0 _ (by omega) (by omega) fr.rf s0
    · have h_39 := hb36.f h_39
      refine wp_iconst (pc := 42) G dX5_rain_42 ?_
      exact wm_iret (pc := 43) G R9 dX5_rain_43 (Or.inl ⟨by rw [g4]; exact (gc.resolve_right (fun q => h_39 q.1)).2, f4⟩)
  · refine wp_iconst (pc := 30) G dX5_rain_30 ?_
    refine wp_goto (tgt := 35) (pc := 31) G dX5_rain_31 (by decide) ?_
    refine wp_iconst (pc := 35) G dX5_rain_35 ?_
    refine wm_calli3 (pc := 36) G dX5_rain_36 kX5_183 (ct_goes hg h_7.z (by decide) (by decide)) (by decide) (by decide) (Nat.le_of_ble_eq_true rfl) (fun z_36 M_36 h_36 => ?_)
    obtain ⟨hm36, hb36⟩ := h_36
    have gc := goes_c (P := 0 ≤ r ∧ r ≤ 1000) (Q := waterZ (M 0) + r * mny (M 0) ≤ 1000000) (R := True) h_7 (by first | exact isB.i1 (by omega) | exact isB.i0 (by omega)) (isB.i1 trivial)
    have f4 : fr SC M M_36 := by rw [hm36]; exact fr.rf.s1 (by decide)
    have g4 : ∀ t, M_36 = ms1 M 4 t → M_36 4 0 = t := fun t q => by rw [q]; rfl
    have g4 := g4 _ hm36
    refine wp_if_ne (tgt := 44) (pc := 39) G dX5_rain_39 hb36.r (by decide) (fun h_39 => ?_) (fun h_39 => ?_)
    · have h_39 := hb36.t h_39
      have gc := (gc.resolve_left (fun q => q.1 h_39)).2
      refine wp_aload_n (pc := 44) G dX5_rain_44 rfl 0 rfl ?_
      refine wm_callv0 (pc := 45) G dX5_rain_45 kX5_187 (ct_save hg (by rw [hm36]; exact h3)) (by decide) (by decide) (Nat.le_of_ble_eq_true rfl) (fun M_45 h_45 => ?_)
      rw [hm36] at h_45
      obtain ⟨s0, sm0⟩ := sv_p h_45 h_39
      refine wp_aload_n (pc := 48) G dX5_rain_48 rfl 0 rfl ?_
      refine wm_get_0 (pc := 49) G dX5_rain_49 fX5_7_4 ?_
      refine wp_iconst (pc := 52) G dX5_rain_52 ?_
      refine wm_ald_0 (pc := 53) G dX5_rain_53 (by omega) ?_
      rw [s0]
      refine wp_lstore_n (L' := [(2, _), (0, _), (1, _)]) (pc := 54) G dX5_rain_54 rfl (by decide) rfl ?_
      refine wp_iconst (pc := 55) G dX5_rain_55 ?_
      refine wp_istore (L' := [(4, _), (2, _), (0, _), (1, _)]) (pc := 56) G dX5_rain_56 (by decide) rfl ?_
      refine wp_sub (L' := [(4, _), (0, _), (1, _), (2, _)]) [0, 2, 3, 1] rfl ?_
      have loop : ∀ (n : Nat) (k : Int) (M1 : Nat → Int → Int), (0 ≤ k ∧ k ≤ mny (M 0)) → (mny (M 0) + 1 ≤ k + n) → (fr [0, 6, 7, 8] M_45 M1) → (rnR (M 0) r r k.toNat (M1 0)) → Wp g F [MB g ad M1] 0 0 58 [(4, iV k), (0, .ref (ad 25)), (1, iV r), (2, jV (M 0 3))] [] := by
        intro n
        induction n with
        | zero =>
          intro k M1 hk hn hf hz
          exfalso
          omega
        | succ n ih =>
          intro k M1 hk hn hf hz
          obtain ⟨y1, y2, y3, y4, y5, y6⟩ := rnR_p hA gc.1.1 _ _ hz
          have ekr : ((k.toNat : Nat) : Int) * r ≤ 36000 := by
            have h1 : ((k.toNat : Nat) : Int) * r ≤ 36 * r := Int.mul_le_mul_of_nonneg_right (by omega) gc.1.1
            omega
          refine wp_iload (pc := 58) G dX5_rain_58 0 rfl ?_
          refine wp_aload_n (pc := 60) G dX5_rain_60 rfl 1 rfl ?_
          refine wm_calli0 (pc := 61) G dX5_rain_61 kX5_61 (ct_many hg) (by decide) (by decide) (Nat.le_of_ble_eq_true rfl) (fun z_61 M_61 h_61 => ?_)
          obtain ⟨rfl, h_61⟩ := h_61
          rw [y2.L.m] at h_61
          subst h_61
          refine wp_icmp_ge (tgt := 92) (pc := 64) G dX5_rain_64 (by omega) (by omega) (by decide) (fun h_64 => ?_) (fun h_64 => ?_)
          · refine wp_aload_n (pc := 92) G dX5_rain_92 rfl 1 rfl ?_
            refine wm_get_0 (pc := 93) G dX5_rain_93 fX5_7_4 ?_
            refine wp_iconst (pc := 96) G dX5_rain_96 ?_
            refine wm_ald_0 (pc := 97) G dX5_rain_97 (by omega) ?_
            refine wp_lload_n (pc := 98) G dX5_rain_98 rfl 3 rfl ?_
            refine wp_lsub (pc := 99) G dX5_rain_99 ?_
            refine wp_l2i (pc := 100) G dX5_rain_100 ?_
            exact wm_iret (pc := 101) G R9 dX5_rain_101 (Or.inr ⟨gc.1, gc.2.1, sm0.fr hf (by decide), rfl, by rw [← show k = mny (M 0) by omega]; exact hz⟩)
          · refine wp_aload_n (pc := 67) G dX5_rain_67 rfl 1 rfl ?_
            refine wm_get_0 (pc := 68) G dX5_rain_68 fX5_7_4 ?_
            refine wp_iconst (pc := 71) G dX5_rain_71 ?_
            refine wp_dup2 (pc := 72) G dX5_rain_72 rfl rfl ?_
            refine wm_ald_0 (pc := 73) G dX5_rain_73 (by omega) ?_
            refine wp_iload_n (pc := 74) G dX5_rain_74 rfl 2 rfl ?_
            refine wp_i2l (pc := 75) G dX5_rain_75 (by omega) ?_
            refine wp_ladd (pc := 76) G dX5_rain_76 ?_
            refine wm_ast_0 (pc := 77) G dX5_rain_77 (by omega) ?_
            obtain ⟨M2, hM2⟩ : ∃ X, X = ma1 M1 0 5 (M1 0 5 + r) := ⟨_, rfl⟩
            rw [← hM2]
            have z2 : M2 0 = fup (M1 0) 5 (M1 0 5 + r) := by rw [hM2]; rfl
            have hf2 : fr [0] M1 M2 := by rw [hM2]; exact fr.rf.a1 (by decide)
            have p5 := y1.p5 5 (M1 0 5 + r) (by omega)
            refine wp_aload_n (pc := 78) G dX5_rain_78 rfl 1 rfl ?_
            refine wp_iload (pc := 79) G dX5_rain_79 0 rfl ?_
            refine wp_iload_n (pc := 81) G dX5_rain_81 rfl 2 rfl ?_
            refine wp_i2l (pc := 82) G dX5_rain_82 (by omega) ?_
            refine wm_callv2 (pc := 83) G dX5_rain_83 kX5_177 (ct_pours hg (by rw [z2]; exact p5.1) (by rw [z2]; exact (p5.2.1.L.c k).mpr ((y2.L.c k).mpr ⟨hk.1, h_64⟩)) (by omega) (by rw [z2, p5.2.2]; omega)) (by decide) (by decide) (Nat.le_of_ble_eq_true rfl) (fun M_83 h_83 => ?_)
            obtain ⟨hf83, p83⟩ := h_83
            rw [z2] at p83
            refine wp_iinc (L' := [(4, _), (0, _), (1, _), (2, _)]) (pc := 86) G dX5_rain_86 0 rfl (by decide) rfl ?_
            refine wp_goto (tgt := 58) (pc := 89) G dX5_rain_89 (by decide) ?_
            refine ih (k + 1) M_83 (by omega) (by omega) ((hf.tr (hf2.up (by decide))).tr hf83) ?_
            rw [tn_s hk.1]
            refine ⟨M1 0, hz, ?_⟩
            rw [show ((k.toNat : Nat) : Int) = k by omega]
            exact p83
      exact loop 38 0 _ (by omega) (by omega) fr.rf s0
    · have h_39 := hb36.f h_39
      refine wp_iconst (pc := 42) G dX5_rain_42 ?_
      exact wm_iret (pc := 43) G R9 dX5_rain_43 (Or.inl ⟨by rw [g4]; exact (gc.resolve_right (fun q => h_39 q.1)).2, f4⟩)
set_option maxHeartbeats 4000000 in
theorem ct_evaporate {g : GV} (hg : GOk g) {ad : Nat → Nat} {M : Nat → Int → Int} (hA : okA (M 0)) (hW : waterZ (M 0) ≤ 1000000) (h3 : 0 ≤ M 3 0 ∧ M 3 0 ≤ 4) {r : Int} (hr : -2147483648 ≤ r ∧ r ≤ 2147483647) : CMi g ad yX5_evaporate cX5_evaporate 5 9 .int [iV r] M (fun z M' => (cod (0 ≤ r ∧ r ≤ 100) True True (M' 4 0) ∧ fr SC M M') ∨ ((0 ≤ r ∧ r ≤ 100) ∧ mtd M M' ∧ z = M' 0 4 - M 0 4 ∧ evN (M 0) r.toNat (M' 0))) := by
  refine wm_ofi hg (by decide +kernel) (Nat.le_of_ble_eq_true rfl) (fun F G R9 => ?_)
  have G : FxOk g F cX5_evaporate RX5 5 9 := G
  refine wp_loc (L' := [(0, _), (1, _)]) rfl ?_
  refine wp_aload_n (pc := 0) G dX5_evaporate_0 rfl 0 rfl ?_
  refine wp_iload_n (pc := 1) G dX5_evaporate_1 rfl 1 rfl ?_
  refine wp_i2l (pc := 2) G dX5_evaporate_2 (by omega) ?_
  refine wp_lconst0 (pc := 3) G dX5_evaporate_3 ?_
  refine wp_ldc2 (z := 100) (pc := 4) G dX5_evaporate_4 q2332 (by decide +kernel) ?_
  refine ws_calli3 (pc := 7) G dX5_evaporate_7 kX5_65 (ct_in hg (by omega) (by omega) (by omega)) (by decide) (by decide) (Nat.le_of_ble_eq_true rfl) (fun z_7 h_7 => ?_)
  refine wp_iconst (pc := 10) G dX5_evaporate_10 ?_
  refine wp_iconst (pc := 11) G dX5_evaporate_11 ?_
  refine wm_calli3 (pc := 12) G dX5_evaporate_12 kX5_183 (ct_goes hg h_7.z (by decide) (by decide)) (by decide) (by decide) (Nat.le_of_ble_eq_true rfl) (fun z_12 M_12 h_12 => ?_)
  obtain ⟨hm12, hb12⟩ := h_12
  have gc := goes_c (P := 0 ≤ r ∧ r ≤ 100) (Q := True) (R := True) h_7 (isB.i1 trivial) (isB.i1 trivial)
  have f4 : fr SC M M_12 := by rw [hm12]; exact fr.rf.s1 (by decide)
  have g4 : ∀ t, M_12 = ms1 M 4 t → M_12 4 0 = t := fun t q => by rw [q]; rfl
  have g4 := g4 _ hm12
  refine wp_if_ne (tgt := 20) (pc := 15) G dX5_evaporate_15 hb12.r (by decide) (fun h_15 => ?_) (fun h_15 => ?_)
  · have h_15 := hb12.t h_15
    have gc := (gc.resolve_left (fun q => q.1 h_15)).2
    refine wp_aload_n (pc := 20) G dX5_evaporate_20 rfl 0 rfl ?_
    refine wm_callv0 (pc := 21) G dX5_evaporate_21 kX5_187 (ct_save hg (by rw [hm12]; exact h3)) (by decide) (by decide) (Nat.le_of_ble_eq_true rfl) (fun M_21 h_21 => ?_)
    rw [hm12] at h_21
    obtain ⟨s0, sm0⟩ := sv_p h_21 h_15
    refine wp_aload_n (pc := 24) G dX5_evaporate_24 rfl 0 rfl ?_
    refine wm_get_0 (pc := 25) G dX5_evaporate_25 fX5_7_4 ?_
    refine wp_iconst (pc := 28) G dX5_evaporate_28 ?_
    refine wm_ald_0 (pc := 29) G dX5_evaporate_29 (by omega) ?_
    rw [s0]
    refine wp_lstore_n (L' := [(2, _), (0, _), (1, _)]) (pc := 30) G dX5_evaporate_30 rfl (by decide) rfl ?_
    refine wp_iconst (pc := 31) G dX5_evaporate_31 ?_
    refine wp_istore (L' := [(4, _), (2, _), (0, _), (1, _)]) (pc := 32) G dX5_evaporate_32 (by decide) rfl ?_
    refine wp_sub (L' := [(4, _), (0, _), (1, _), (2, _)]) [0, 2, 3, 1] rfl ?_
    have loop : ∀ (n : Nat) (k : Int) (M1 : Nat → Int → Int), (0 ≤ k ∧ k ≤ r) → (r + 1 ≤ k + n) → (fr [0, 6, 7, 8, 9, 10, 11, 12, 13, 14, 18, 19] M_21 M1) → (evN (M 0) k.toNat (M1 0)) → Wp g F [MB g ad M1] 0 0 34 [(4, iV k), (0, .ref (ad 25)), (1, iV r), (2, jV (M 0 4))] [] := by
      intro n
      induction n with
      | zero =>
        intro k M1 hk hn hf hz
        exfalso
        omega
      | succ n ih =>
        intro k M1 hk hn hf hz
        obtain ⟨y1, y2, y3, y4, y5⟩ := evN_p hA _ _ hz
        refine wp_iload (pc := 34) G dX5_evaporate_34 0 rfl ?_
        refine wp_iload_n (pc := 36) G dX5_evaporate_36 rfl 2 rfl ?_
        refine wp_icmp_ge (tgt := 50) (pc := 37) G dX5_evaporate_37 (by omega) (by omega) (by decide) (fun h_37 => ?_) (fun h_37 => ?_)
        · refine wp_aload_n (pc := 50) G dX5_evaporate_50 rfl 1 rfl ?_
          refine wm_get_0 (pc := 51) G dX5_evaporate_51 fX5_7_4 ?_
          refine wp_iconst (pc := 54) G dX5_evaporate_54 ?_
          refine wm_ald_0 (pc := 55) G dX5_evaporate_55 (by omega) ?_
          refine wp_lload_n (pc := 56) G dX5_evaporate_56 rfl 3 rfl ?_
          refine wp_lsub (pc := 57) G dX5_evaporate_57 ?_
          refine wp_l2i (pc := 58) G dX5_evaporate_58 ?_
          exact wm_iret (pc := 59) G R9 dX5_evaporate_59 (Or.inr ⟨gc.1, sm0.fr hf (by decide), rfl, by rw [show r = k by omega]; exact hz⟩)
        · refine wp_aload_n (pc := 40) G dX5_evaporate_40 rfl 1 rfl ?_
          refine wm_callv0 (pc := 41) G dX5_evaporate_41 kX5_243 (ct_evaporates hg y1 (by omega)) (by decide) (by decide) (Nat.le_of_ble_eq_true rfl) (fun M_41 h_41 => ?_)
          refine wp_iinc (L' := [(4, _), (0, _), (1, _), (2, _)]) (pc := 44) G dX5_evaporate_44 0 rfl (by decide) rfl ?_
          refine wp_goto (tgt := 34) (pc := 47) G dX5_evaporate_47 (by decide) ?_
          refine ih (k + 1) M_41 (by omega) (by omega) (hf.tr h_41.1) ?_
          rw [tn_s hk.1]
          exact ⟨M1 0, hz, h_41.2⟩
    exact loop 102 0 _ (by omega) (by omega) fr.rf s0
  · have h_15 := hb12.f h_15
    refine wp_iconst (pc := 18) G dX5_evaporate_18 ?_
    exact wm_iret (pc := 19) G R9 dX5_evaporate_19 (Or.inl ⟨by rw [g4]; exact (gc.resolve_right (fun q => h_15 q.1)).2, f4⟩)
set_option maxHeartbeats 4000000 in
theorem ct_take {g : GV} (hg : GOk g) {ad : Nat → Nat} {M : Nat → Int → Int} (hA : okA (M 0)) (hW : waterZ (M 0) ≤ 1000000) (h3 : 0 ≤ M 3 0 ∧ M 3 0 ≤ 4) {n : Int} (hn : -2147483648 ≤ n ∧ n ≤ 2147483647) {am : Int} (ham : -2147483648 ≤ am ∧ am ≤ 2147483647) : CMi g ad yX5_take cX5_take 4 8 .int [iV n, iV am] M (fun z M' => (cod (0 ≤ n ∧ n < nL (M 0)) ((0 ≤ n ∧ n < nL (M 0)) ∧ (0 ≤ am ∧ am ≤ M 0 (224 + ordK (M 0) n))) True (M' 4 0) ∧ fr SC M M') ∨ ((0 ≤ n ∧ n < nL (M 0)) ∧ (0 ≤ am ∧ am ≤ M 0 (224 + ordK (M 0) n)) ∧ mtd M M' ∧ (∃ W, Takes (M 0) (ordK (M 0) n) am W ∧ M' 0 = fup W 4 (W 4 + am)) ∧ z = nL (M' 0))) := by
  refine wm_ofi hg (by decide +kernel) (Nat.le_of_ble_eq_true rfl) (fun F G R9 => ?_)
  have G : FxOk g F cX5_take RX5 4 8 := G
  refine wp_loc (L' := [(0, _), (1, _), (2, _)]) rfl ?_
  have hw0 := hA.w0
  have hK := hA.K (by omega)
  refine wp_aload_n (pc := 0) G dX5_take_0 rfl 0 rfl ?_
  refine wp_iload_n (pc := 1) G dX5_take_1 rfl 1 rfl ?_
  refine wm_calli1 (pc := 2) G dX5_take_2 kX5_246 (ct_isLake hg hA.L hK hn) (by decide) (by decide) (Nat.le_of_ble_eq_true rfl) (fun z_2 M_2 h_2 => ?_)
  obtain ⟨h_1o, h_1b⟩ := h_2
  have z1 : M_2 0 = M 0 := h_1o.1 0 (by decide)
  refine wp_istore_n (L' := [(3, _), (0, _), (1, _), (2, _)]) (pc := 5) G dX5_take_5 rfl (by decide) rfl ?_
  refine wp_aload_n (pc := 6) G dX5_take_6 rfl 1 rfl ?_
  refine wp_iload_n (pc := 7) G dX5_take_7 rfl 0 rfl ?_
  refine wp_iload_n (pc := 8) G dX5_take_8 rfl 0 rfl ?_
  refine wp_if_eq (tgt := 48) (pc := 9) G dX5_take_9 h_1b.r (by decide) (fun h_9 => ?_) (fun h_9 => ?_)
  · have h_9 := h_1b.f h_9
    refine wp_iconst (pc := 48) G dX5_take_48 ?_
    refine wp_iconst (pc := 49) G dX5_take_49 ?_
    refine wm_calli3 (pc := 50) G dX5_take_50 kX5_183 (ct_goes hg h_1b.z (by decide) (by decide)) (by decide) (by decide) (Nat.le_of_ble_eq_true rfl) (fun z_50 M_50 h_50 => ?_)
    obtain ⟨hm50, hb50⟩ := h_50
    have gc := goes_c (P := 0 ≤ n ∧ n < nL (M 0)) (Q := (0 ≤ n ∧ n < nL (M 0)) ∧ (0 ≤ am ∧ am ≤ M 0 (224 + ordK (M 0) n))) (R := True) h_1b (by first | exact isB.i1 ⟨h_9, h_41⟩ | exact isB.i0 (fun q => h_9 q.1) | exact isB.i0 (fun q => h_41 q.2)) (isB.i1 trivial)
    have f4 : fr SC M M_50 := by rw [hm50]; exact (h_1o.1.up (by decide)).s1 (by decide)
    have g4 : ∀ t, M_50 = ms1 M_2 4 t → M_50 4 0 = t := fun t q => by rw [q]; rfl
    have g4 := g4 _ hm50
    refine wp_if_ne (tgt := 58) (pc := 53) G dX5_take_53 hb50.r (by decide) (fun h_53 => ?_) (fun h_53 => ?_)
    · have h_53 := hb50.t h_53
      have gc := (gc.resolve_left (fun q => q.1 h_53)).2
      refine wp_aload_n (pc := 58) G dX5_take_58 rfl 1 rfl ?_
      refine wm_callv0 (pc := 59) G dX5_take_59 kX5_187 (ct_save hg (by rw [hm50]; show 0 ≤ M_2 3 0 ∧ M_2 3 0 ≤ 4; rw [h_1o.1 3 (by decide)]; exact h3)) (by decide) (by decide) (Nat.le_of_ble_eq_true rfl) (fun M_59 h_59 => ?_)
      rw [hm50] at h_59
      obtain ⟨s0, sm0⟩ := sv_p h_59 h_53
      have sm1 : mtd M M_59 := by
        have e9 := saveM_e (M := M) (M1 := M_2) z1 (h_1o.1 1 (by decide)) (h_1o.1 3 (by decide))
        exact ⟨sm0.1, sm0.2.1.trans e9.1, sm0.2.2.1.trans e9.2, sm0.2.2.2.1.trans (h_1o.1 20 (by decide)), sm0.2.2.2.2.trans (h_1o.1 21 (by decide))⟩
      have o59 : M_59 11 n = ordK (M 0) n := by
        rw [← ordK_e hA.L h_1o gc.1]
        rw [h_59, saveM_fr _ 11 (by decide)]
        rfl
      have z59 : M_59 0 = M 0 := s0.trans z1
      have hk := ordK_k hA.L gc.1
      have hk1 := hk.1
      have hn36 := nL_r hA.L
      refine wp_aload_n (pc := 62) G dX5_take_62 rfl 1 rfl ?_
      refine wp_aload_n (pc := 63) G dX5_take_63 rfl 1 rfl ?_
      refine wm_get_11 (pc := 64) G dX5_take_64 fX5_29_4 ?_
      refine wp_iload_n (pc := 67) G dX5_take_67 rfl 2 rfl ?_
      refine wm_ald_11 (pc := 68) G dX5_take_68 (by omega) ?_
      rw [o59]
      refine wp_iload_n (pc := 69) G dX5_take_69 rfl 3 rfl ?_
      refine wp_i2l (pc := 70) G dX5_take_70 (by omega) ?_
      refine wm_callv2 (pc := 71) G dX5_take_71 kX5_238 (ct_takes hg (by rw [z59]; exact hA) (by rw [z59]; omega) (by rw [z59]; exact ordK_k hA.L gc.1) (by rw [z59]; exact gc.2.1.2)) (by decide) (by decide) (Nat.le_of_ble_eq_true rfl) (fun M_71 h_71 => ?_)
      obtain ⟨hf71, W, hW, z71⟩ := h_71
      rw [z59] at hW
      obtain ⟨Z9, w1, w2, w3, w4, w5, w6⟩ := take_ok hA (ordK_k hA.L gc.1) gc.2.1.2
      have eW := hW.u w1
      rw [← eW] at w2 w5
      have A71 := w2.p5 4 (W 4 + am) (by omega)
      rw [← z71] at A71
      refine wp_aload_n (pc := 74) G dX5_take_74 rfl 1 rfl ?_
      refine wm_callv0 (pc := 75) G dX5_take_75 kX5_152 (ct_orders hg A71.1.L (A71.1.K (by omega))) (by decide) (by decide) (Nat.le_of_ble_eq_true rfl) (fun M_75 h_75 => ?_)
      refine wp_aload_n (pc := 78) G dX5_take_78 rfl 1 rfl ?_
      refine wm_get_12 (pc := 79) G dX5_take_79 fX5_149_4 ?_
      rw [h_75.2.1]
      exact wm_iret (pc := 82) G R9 dX5_take_82 (Or.inr ⟨gc.1, gc.2.1.2, (sm1.fr hf71 (by decide)).fr h_75.1 (by decide), ⟨W, hW, by rw [h_75.1 0 (by decide)]; exact z71⟩, by rw [h_75.1 0 (by decide)]⟩)
    · have h_53 := hb50.f h_53
      refine wp_iconst (pc := 56) G dX5_take_56 ?_
      exact wm_iret (pc := 57) G R9 dX5_take_57 (Or.inl ⟨by rw [g4]; exact (gc.resolve_right (fun q => h_53 q.1)).2, f4⟩)
  · have h_9 := h_1b.t h_9
    have hk := ordK_k hA.L h_9
    have hk1 := hk.1
    have hv1 := (hK.1 _ hk.1).2.1
    have hn36 := nL_r hA.L
    refine wp_iload_n (pc := 12) G dX5_take_12 rfl 3 rfl ?_
    refine wp_i2l (pc := 13) G dX5_take_13 (by omega) ?_
    refine wp_lconst0 (pc := 14) G dX5_take_14 ?_
    refine wp_aload_n (pc := 15) G dX5_take_15 rfl 1 rfl ?_
    refine wm_get_0 (pc := 16) G dX5_take_16 fX5_7_4 ?_
    refine wp_sipush (pc := 19) G dX5_take_19 (by decide) ?_
    refine wp_aload_n (pc := 22) G dX5_take_22 rfl 1 rfl ?_
    refine wm_get_11 (pc := 23) G dX5_take_23 fX5_29_4 ?_
    refine wp_iload_n (pc := 26) G dX5_take_26 rfl 0 rfl ?_
    refine wp_if_eq (tgt := 34) (pc := 27) G dX5_take_27 h_1b.r (by decide) (fun h_27 => ?_) (fun h_27 => ?_)
    · have h_27 := h_1b.f h_27
      exact absurd h_9 h_27
    · have h_27 := h_1b.t h_27
      refine wp_iload_n (pc := 30) G dX5_take_30 rfl 2 rfl ?_
      refine wp_goto (tgt := 35) (pc := 31) G dX5_take_31 (by decide) ?_
      refine wm_ald_11 (pc := 35) G dX5_take_35 (by omega) ?_
      rw [ordK_e hA.L h_1o h_9]
      refine wp_iadd (pc := 36) G dX5_take_36 ?_
      refine wm_ald_0 (pc := 37) G dX5_take_37 (by omega) ?_
      rw [z1]
      refine ws_calli3 (pc := 38) G dX5_take_38 kX5_65 (ct_in hg (by omega) (by omega) (by omega)) (by decide) (by decide) (Nat.le_of_ble_eq_true rfl) (fun z_38 h_38 => ?_)
      refine wp_if_eq (tgt := 48) (pc := 41) G dX5_take_41 h_38.r (by decide) (fun h_41 => ?_) (fun h_41 => ?_)
      · have h_41 := h_38.f h_41
        refine wp_iconst (pc := 48) G dX5_take_48 ?_
        refine wp_iconst (pc := 49) G dX5_take_49 ?_
        refine wm_calli3 (pc := 50) G dX5_take_50 kX5_183 (ct_goes hg h_1b.z (by decide) (by decide)) (by decide) (by decide) (Nat.le_of_ble_eq_true rfl) (fun z_50 M_50 h_50 => ?_)
        obtain ⟨hm50, hb50⟩ := h_50
        have gc := goes_c (P := 0 ≤ n ∧ n < nL (M 0)) (Q := (0 ≤ n ∧ n < nL (M 0)) ∧ (0 ≤ am ∧ am ≤ M 0 (224 + ordK (M 0) n))) (R := True) h_1b (by first | exact isB.i1 ⟨h_9, h_41⟩ | exact isB.i0 (fun q => h_9 q.1) | exact isB.i0 (fun q => h_41 q.2)) (isB.i1 trivial)
        have f4 : fr SC M M_50 := by rw [hm50]; exact (h_1o.1.up (by decide)).s1 (by decide)
        have g4 : ∀ t, M_50 = ms1 M_2 4 t → M_50 4 0 = t := fun t q => by rw [q]; rfl
        have g4 := g4 _ hm50
        refine wp_if_ne (tgt := 58) (pc := 53) G dX5_take_53 hb50.r (by decide) (fun h_53 => ?_) (fun h_53 => ?_)
        · have h_53 := hb50.t h_53
          have gc := (gc.resolve_left (fun q => q.1 h_53)).2
          refine wp_aload_n (pc := 58) G dX5_take_58 rfl 1 rfl ?_
          refine wm_callv0 (pc := 59) G dX5_take_59 kX5_187 (ct_save hg (by rw [hm50]; show 0 ≤ M_2 3 0 ∧ M_2 3 0 ≤ 4; rw [h_1o.1 3 (by decide)]; exact h3)) (by decide) (by decide) (Nat.le_of_ble_eq_true rfl) (fun M_59 h_59 => ?_)
          rw [hm50] at h_59
          obtain ⟨s0, sm0⟩ := sv_p h_59 h_53
          have sm1 : mtd M M_59 := by
            have e9 := saveM_e (M := M) (M1 := M_2) z1 (h_1o.1 1 (by decide)) (h_1o.1 3 (by decide))
            exact ⟨sm0.1, sm0.2.1.trans e9.1, sm0.2.2.1.trans e9.2, sm0.2.2.2.1.trans (h_1o.1 20 (by decide)), sm0.2.2.2.2.trans (h_1o.1 21 (by decide))⟩
          have o59 : M_59 11 n = ordK (M 0) n := by
            rw [← ordK_e hA.L h_1o gc.1]
            rw [h_59, saveM_fr _ 11 (by decide)]
            rfl
          have z59 : M_59 0 = M 0 := s0.trans z1
          have hk := ordK_k hA.L gc.1
          have hk1 := hk.1
          have hn36 := nL_r hA.L
          refine wp_aload_n (pc := 62) G dX5_take_62 rfl 1 rfl ?_
          refine wp_aload_n (pc := 63) G dX5_take_63 rfl 1 rfl ?_
          refine wm_get_11 (pc := 64) G dX5_take_64 fX5_29_4 ?_
          refine wp_iload_n (pc := 67) G dX5_take_67 rfl 2 rfl ?_
          refine wm_ald_11 (pc := 68) G dX5_take_68 (by omega) ?_
          rw [o59]
          refine wp_iload_n (pc := 69) G dX5_take_69 rfl 3 rfl ?_
          refine wp_i2l (pc := 70) G dX5_take_70 (by omega) ?_
          refine wm_callv2 (pc := 71) G dX5_take_71 kX5_238 (ct_takes hg (by rw [z59]; exact hA) (by rw [z59]; omega) (by rw [z59]; exact ordK_k hA.L gc.1) (by rw [z59]; exact gc.2.1.2)) (by decide) (by decide) (Nat.le_of_ble_eq_true rfl) (fun M_71 h_71 => ?_)
          obtain ⟨hf71, W, hW, z71⟩ := h_71
          rw [z59] at hW
          obtain ⟨Z9, w1, w2, w3, w4, w5, w6⟩ := take_ok hA (ordK_k hA.L gc.1) gc.2.1.2
          have eW := hW.u w1
          rw [← eW] at w2 w5
          have A71 := w2.p5 4 (W 4 + am) (by omega)
          rw [← z71] at A71
          refine wp_aload_n (pc := 74) G dX5_take_74 rfl 1 rfl ?_
          refine wm_callv0 (pc := 75) G dX5_take_75 kX5_152 (ct_orders hg A71.1.L (A71.1.K (by omega))) (by decide) (by decide) (Nat.le_of_ble_eq_true rfl) (fun M_75 h_75 => ?_)
          refine wp_aload_n (pc := 78) G dX5_take_78 rfl 1 rfl ?_
          refine wm_get_12 (pc := 79) G dX5_take_79 fX5_149_4 ?_
          rw [h_75.2.1]
          exact wm_iret (pc := 82) G R9 dX5_take_82 (Or.inr ⟨gc.1, gc.2.1.2, (sm1.fr hf71 (by decide)).fr h_75.1 (by decide), ⟨W, hW, by rw [h_75.1 0 (by decide)]; exact z71⟩, by rw [h_75.1 0 (by decide)]⟩)
        · have h_53 := hb50.f h_53
          refine wp_iconst (pc := 56) G dX5_take_56 ?_
          exact wm_iret (pc := 57) G R9 dX5_take_57 (Or.inl ⟨by rw [g4]; exact (gc.resolve_right (fun q => h_53 q.1)).2, f4⟩)
      · have h_41 := h_38.t h_41
        refine wp_iconst (pc := 44) G dX5_take_44 ?_
        refine wp_goto (tgt := 49) (pc := 45) G dX5_take_45 (by decide) ?_
        refine wp_iconst (pc := 49) G dX5_take_49 ?_
        refine wm_calli3 (pc := 50) G dX5_take_50 kX5_183 (ct_goes hg h_1b.z (by decide) (by decide)) (by decide) (by decide) (Nat.le_of_ble_eq_true rfl) (fun z_50 M_50 h_50 => ?_)
        obtain ⟨hm50, hb50⟩ := h_50
        have gc := goes_c (P := 0 ≤ n ∧ n < nL (M 0)) (Q := (0 ≤ n ∧ n < nL (M 0)) ∧ (0 ≤ am ∧ am ≤ M 0 (224 + ordK (M 0) n))) (R := True) h_1b (by first | exact isB.i1 ⟨h_9, h_41⟩ | exact isB.i0 (fun q => h_9 q.1) | exact isB.i0 (fun q => h_41 q.2)) (isB.i1 trivial)
        have f4 : fr SC M M_50 := by rw [hm50]; exact (h_1o.1.up (by decide)).s1 (by decide)
        have g4 : ∀ t, M_50 = ms1 M_2 4 t → M_50 4 0 = t := fun t q => by rw [q]; rfl
        have g4 := g4 _ hm50
        refine wp_if_ne (tgt := 58) (pc := 53) G dX5_take_53 hb50.r (by decide) (fun h_53 => ?_) (fun h_53 => ?_)
        · have h_53 := hb50.t h_53
          have gc := (gc.resolve_left (fun q => q.1 h_53)).2
          refine wp_aload_n (pc := 58) G dX5_take_58 rfl 1 rfl ?_
          refine wm_callv0 (pc := 59) G dX5_take_59 kX5_187 (ct_save hg (by rw [hm50]; show 0 ≤ M_2 3 0 ∧ M_2 3 0 ≤ 4; rw [h_1o.1 3 (by decide)]; exact h3)) (by decide) (by decide) (Nat.le_of_ble_eq_true rfl) (fun M_59 h_59 => ?_)
          rw [hm50] at h_59
          obtain ⟨s0, sm0⟩ := sv_p h_59 h_53
          have sm1 : mtd M M_59 := by
            have e9 := saveM_e (M := M) (M1 := M_2) z1 (h_1o.1 1 (by decide)) (h_1o.1 3 (by decide))
            exact ⟨sm0.1, sm0.2.1.trans e9.1, sm0.2.2.1.trans e9.2, sm0.2.2.2.1.trans (h_1o.1 20 (by decide)), sm0.2.2.2.2.trans (h_1o.1 21 (by decide))⟩
          have o59 : M_59 11 n = ordK (M 0) n := by
            rw [← ordK_e hA.L h_1o gc.1]
            rw [h_59, saveM_fr _ 11 (by decide)]
            rfl
          have z59 : M_59 0 = M 0 := s0.trans z1
          have hk := ordK_k hA.L gc.1
          have hk1 := hk.1
          have hn36 := nL_r hA.L
          refine wp_aload_n (pc := 62) G dX5_take_62 rfl 1 rfl ?_
          refine wp_aload_n (pc := 63) G dX5_take_63 rfl 1 rfl ?_
          refine wm_get_11 (pc := 64) G dX5_take_64 fX5_29_4 ?_
          refine wp_iload_n (pc := 67) G dX5_take_67 rfl 2 rfl ?_
          refine wm_ald_11 (pc := 68) G dX5_take_68 (by omega) ?_
          rw [o59]
          refine wp_iload_n (pc := 69) G dX5_take_69 rfl 3 rfl ?_
          refine wp_i2l (pc := 70) G dX5_take_70 (by omega) ?_
          refine wm_callv2 (pc := 71) G dX5_take_71 kX5_238 (ct_takes hg (by rw [z59]; exact hA) (by rw [z59]; omega) (by rw [z59]; exact ordK_k hA.L gc.1) (by rw [z59]; exact gc.2.1.2)) (by decide) (by decide) (Nat.le_of_ble_eq_true rfl) (fun M_71 h_71 => ?_)
          obtain ⟨hf71, W, hW, z71⟩ := h_71
          rw [z59] at hW
          obtain ⟨Z9, w1, w2, w3, w4, w5, w6⟩ := take_ok hA (ordK_k hA.L gc.1) gc.2.1.2
          have eW := hW.u w1
          rw [← eW] at w2 w5
          have A71 := w2.p5 4 (W 4 + am) (by omega)
          rw [← z71] at A71
          refine wp_aload_n (pc := 74) G dX5_take_74 rfl 1 rfl ?_
          refine wm_callv0 (pc := 75) G dX5_take_75 kX5_152 (ct_orders hg A71.1.L (A71.1.K (by omega))) (by decide) (by decide) (Nat.le_of_ble_eq_true rfl) (fun M_75 h_75 => ?_)
          refine wp_aload_n (pc := 78) G dX5_take_78 rfl 1 rfl ?_
          refine wm_get_12 (pc := 79) G dX5_take_79 fX5_149_4 ?_
          rw [h_75.2.1]
          exact wm_iret (pc := 82) G R9 dX5_take_82 (Or.inr ⟨gc.1, gc.2.1.2, (sm1.fr hf71 (by decide)).fr h_75.1 (by decide), ⟨W, hW, by rw [h_75.1 0 (by decide)]; exact z71⟩, by rw [h_75.1 0 (by decide)]⟩)
        · have h_53 := hb50.f h_53
          refine wp_iconst (pc := 56) G dX5_take_56 ?_
          exact wm_iret (pc := 57) G R9 dX5_take_57 (Or.inl ⟨by rw [g4]; exact (gc.resolve_right (fun q => h_53 q.1)).2, f4⟩)
