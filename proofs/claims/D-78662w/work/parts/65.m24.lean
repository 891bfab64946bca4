/-! THE CALLS OF THE MODEL: depth -/
set_option maxRecDepth 100000
noncomputable def dpZ (az : Int → Int) (c : Int) : UInt64 := @ite _ (wetP az c) (Classical.propDecidable _) (FP.ddiv (FP.l2d (Int64.ofInt (dpN az c / (Int.gcd (dpN az c) (lvB az (lakeZ az c)) : Int)))) (FP.l2d (Int64.ofInt (lvB az (lakeZ az c) / (Int.gcd (dpN az c) (lvB az (lakeZ az c)) : Int))))) FP.dconst0
set_option maxHeartbeats 4000000 in
theorem ct_depth {g : GV} (hg : GOk g) {ad : Nat → Nat} {M : Nat → Int → Int} (hA : okA (M 0)) (hW : waterZ (M 0) ≤ 1000000) {c : Int} (hc : -2147483648 ≤ c ∧ c ≤ 2147483647) : CMd g ad yX5_depth cX5_depth 6 3 [iV c] M (fun z M' => (cod (isC (M 0) c) (True) (True) (M' 4 0) ∧ fr SC M M') ∨ ((isC (M 0) c) ∧ (True) ∧ (True) ∧ M' 4 0 = 0 ∧ fr SC M M' ∧ z = dpZ (M 0) c)) := by
  refine wm_ofd hg (by decide +kernel) (Nat.le_of_ble_eq_true rfl) (fun F G R9 => ?_)
  have G : FxOk g F cX5_depth RX5 6 3 := G
  refine wp_loc (L' := [(0, _), (1, _)]) rfl ?_
  have hK := hA.K (by omega)
  refine wp_aload_n (pc := 0) G dX5_depth_0 rfl 0 rfl ?_
  refine wp_aload_n (pc := 1) G dX5_depth_1 rfl 0 rfl ?_
  refine wp_iload_n (pc := 2) G dX5_depth_2 rfl 1 rfl ?_
  refine wm_calli1 (pc := 3) G dX5_depth_3 kX5_73 (ct_isCell hg hA.L hc) (by decide) (by decide) (Nat.le_of_ble_eq_true rfl) (fun z_3 M_3 h_3 => ?_)
  obtain ⟨rfl, h_3⟩ := h_3
  refine wp_iconst (pc := 6) G dX5_depth_6 ?_
  refine wp_iconst (pc := 7) G dX5_depth_7 ?_
  refine wm_calli3 (pc := 8) G dX5_depth_8 kX5_183 (ct_goes hg h_3.z (by decide) (by decide)) (by decide) (by decide) (Nat.le_of_ble_eq_true rfl) (fun z_8 M_8 h_8 => ?_)
  obtain ⟨hm8, hb8⟩ := h_8
  have gc := goes_c (P := isC (M 0) c) (Q := True) (R := True) h_3 (isB.i1 trivial) (isB.i1 trivial)
  have f4 : fr SC M M_8 := by rw [hm8]; exact fr.rf.s1 (by decide)
  have g4 : ∀ t, M_8 = ms1 M 4 t → M_8 4 0 = t := fun t q => by rw [q]; rfl
  have g4 := g4 _ hm8
  refine wp_if_eq (tgt := 22) (pc := 11) G dX5_depth_11 hb8.r (by decide) (fun h_11 => ?_) (fun h_11 => ?_)
  · have h_11 := hb8.f h_11
    refine wp_dconst0 (pc := 22) G dX5_depth_22 ?_
    first
      | exact wm_dret G R9 dX5_depth_23 (Or.inr ⟨gc.1, trivial, trivial, g16, f4.tr (h16f.up (by decide)), (if_neg h_19).symm⟩)
      | exact wm_dret G R9 dX5_depth_23 (Or.inl ⟨by rw [g4]; exact (gc.resolve_right (fun q => h_11 q.1)).2, f4⟩)
  · have h_11 := hb8.t h_11
    have gc := (gc.resolve_left (fun q => q.1 h_11)).2
    have z8 : M_8 0 = M 0 := by rw [hm8]; rfl
    have g40 : M_8 4 0 = 0 := by rw [g4]; exact h_11
    refine wp_aload_n (pc := 14) G dX5_depth_14 rfl 0 rfl ?_
    refine wp_iload_n (pc := 15) G dX5_depth_15 rfl 1 rfl ?_
    refine wm_calli1 (pc := 16) G dX5_depth_16 kX5_165 (ct_isWet hg (by rw [z8]; exact hA.L) (by rw [z8]; exact hK) (by rw [z8]; exact gc.1)) (by decide) (by decide) (Nat.le_of_ble_eq_true rfl) (fun z_16 M_16 h_16 => ?_)
    obtain ⟨h16f, h16b⟩ := h_16
    rw [z8] at h16b
    have z16 : M_16 0 = M 0 := by rw [h16f 0 (by decide), z8]
    have g16 : M_16 4 0 = 0 := by rw [h16f 4 (by decide)]; exact g40
    refine wp_if_ne (tgt := 24) (pc := 19) G dX5_depth_19 h16b.r (by decide) (fun h_19 => ?_) (fun h_19 => ?_)
    · have h_19 := h16b.t h_19
      have hli := (lakeZ_p (az := M 0) c).resolve_left h_19.1
      have hkk : isK (M 0) (lakeZ (M 0) c) := ⟨hli.1, hli.2.1⟩
      have hki := hli.2.2
      refine wp_aload_n (pc := 24) G dX5_depth_24 rfl 0 rfl ?_
      refine wp_aload_n (pc := 25) G dX5_depth_25 rfl 0 rfl ?_
      refine wp_iload_n (pc := 26) G dX5_depth_26 rfl 1 rfl ?_
      refine wm_calli1 (pc := 27) G dX5_depth_27 kX5_133 (ct_lakeOf hg (by rw [z16]; exact hK) (gc.1.lt hA.L)) (by decide) (by decide) (Nat.le_of_ble_eq_true rfl) (fun z_27 M_27 h_27 => ?_)
      obtain ⟨rfl, h_27⟩ := h_27
      rw [z16] at h_27
      subst h_27
      refine wm_callv1 (pc := 30) G dX5_depth_30 kX5_162 (ct_levels hg (by rw [z16]; exact hA.L) (by rw [z16]; exact hK) hkk.1 (m := M 0 (152 + lakeZ (M 0) c)) (vol := M 0 (224 + lakeZ (M 0) c)) (by rw [z16]) (by rw [z16]) (by rw [z16]; exact ⟨c, gc.1, hki⟩)) (by decide) (by decide) (Nat.le_of_ble_eq_true rfl) (fun M_30 h_30 => ?_)
      obtain ⟨h30f, h30⟩ := h_30
      rw [z16] at h30
      obtain ⟨s9, b9⟩ := lvS_e h30
      have z30 : M_30 0 = M 0 := by rw [h30f 0 (by decide), z16]
      have wr := wet_r hA (by omega) gc.1 h_19
      have d9 : M_30 13 0 - M_30 14 0 * hgt (M 0) c = dpN (M 0) c := by unfold dpN; rw [← s9, ← b9]
      have hh := hA.L.hg (gc.1.lt hA.L)
      refine wp_aload_n (pc := 33) G dX5_depth_33 rfl 0 rfl ?_
      refine wm_get_13 (pc := 34) G dX5_depth_34 fX5_159_4 ?_
      refine wp_aload_n (pc := 37) G dX5_depth_37 rfl 0 rfl ?_
      refine wm_get_14 (pc := 38) G dX5_depth_38 fX5_155_4 ?_
      refine wp_aload_n (pc := 41) G dX5_depth_41 rfl 0 rfl ?_
      refine wp_iload_n (pc := 42) G dX5_depth_42 rfl 1 rfl ?_
      refine wm_calli1 (pc := 43) G dX5_depth_43 kX5_87 (ct_height hg (by have := gc.1.lt hA.L; omega)) (by decide) (by decide) (Nat.le_of_ble_eq_true rfl) (fun z_43 M_43 h_43 => ?_)
      obtain ⟨rfl, h_43⟩ := h_43
      rw [z30] at h_43
      subst h_43
      refine wp_i2l (pc := 46) G dX5_depth_46 (by omega) ?_
      refine wp_lmul (pc := 47) G dX5_depth_47 ?_
      refine wp_lsub (pc := 48) G dX5_depth_48 ?_
      rw [d9]
      refine wp_lstore_n (L' := [(2, _), (0, _), (1, _)]) (pc := 49) G dX5_depth_49 rfl (by decide) rfl ?_
      refine wp_lload_n (pc := 50) G dX5_depth_50 rfl 0 rfl ?_
      refine wp_aload_n (pc := 51) G dX5_depth_51 rfl 1 rfl ?_
      refine wm_get_14 (pc := 52) G dX5_depth_52 fX5_155_4 ?_
      rw [b9]
      refine ws_calll2 (pc := 55) G dX5_depth_55 kX5_265 (ct_divisor hg (by omega) (by omega)) (by decide) (by decide) (Nat.le_of_ble_eq_true rfl) (fun z_55 h_55 => ?_)
      have hg0 : 0 < (Int.gcd (dpN (M 0) c) (lvB (M 0) (lakeZ (M 0) c)) : Int) := by
        have := Int.gcd_pos_of_ne_zero_right (dpN (M 0) c) (show lvB (M 0) (lakeZ (M 0) c) ≠ 0 by omega)
        omega
      have hg1 : (Int.gcd (dpN (M 0) c) (lvB (M 0) (lakeZ (M 0) c)) : Int) ≤ lvB (M 0) (lakeZ (M 0) c) := by
        have := Int.gcd_le_natAbs_right (dpN (M 0) c) (show lvB (M 0) (lakeZ (M 0) c) ≠ 0 by omega)
        omega
      subst h_55
      have q1 := Int.ediv_nonneg (show 0 ≤ dpN (M 0) c by omega) (Int.le_of_lt hg0)
      have q2 := Int.ediv_le_self (Int.gcd (dpN (M 0) c) (lvB (M 0) (lakeZ (M 0) c)) : Int) (show 0 ≤ dpN (M 0) c by omega)
      have q3 := Int.ediv_le_self (Int.gcd (dpN (M 0) c) (lvB (M 0) (lakeZ (M 0) c)) : Int) (show 0 ≤ lvB (M 0) (lakeZ (M 0) c) by omega)
      have q4 : 0 < lvB (M 0) (lakeZ (M 0) c) / (Int.gcd (dpN (M 0) c) (lvB (M 0) (lakeZ (M 0) c)) : Int) := Int.ediv_pos_of_pos_of_dvd (by omega) (Int.le_of_lt hg0) (Int.gcd_dvd_right _ _)
      refine wp_lstore (L' := [(4, _), (2, _), (0, _), (1, _)]) (pc := 58) G dX5_depth_58 (by decide) rfl ?_
      refine wp_lload_n (pc := 60) G dX5_depth_60 rfl 1 rfl ?_
      refine wp_lload (pc := 61) G dX5_depth_61 0 rfl ?_
      refine wp_ldiv (pc := 63) G dX5_depth_63 (by omega) ⟨hg0, by omega⟩ ?_
      refine wp_l2d (pc := 64) G dX5_depth_64 ?_
      refine wp_aload_n (pc := 65) G dX5_depth_65 rfl 2 rfl ?_
      refine wm_get_14 (pc := 66) G dX5_depth_66 fX5_155_4 ?_
      rw [b9]
      refine wp_lload (pc := 69) G dX5_depth_69 0 rfl ?_
      refine wp_ldiv (pc := 71) G dX5_depth_71 (by omega) ⟨hg0, by omega⟩ ?_
      refine wp_l2d (pc := 72) G dX5_depth_72 ?_
      refine wp_ddiv (pc := 73) G dX5_depth_73 (fp_div ⟨q1, by omega⟩ ⟨q4, by omega⟩) ?_
      exact wm_dret G R9 dX5_depth_74 (Or.inr ⟨gc.1, trivial, trivial, by rw [h30f 4 (by decide)]; exact g16, (f4.tr (h16f.up (by decide))).tr (h30f.up (by decide)), (if_pos h_19).symm⟩)
    · have h_19 := h16b.f h_19
      refine wp_dconst0 (pc := 22) G dX5_depth_22 ?_
      first
        | exact wm_dret G R9 dX5_depth_23 (Or.inr ⟨gc.1, trivial, trivial, g16, f4.tr (h16f.up (by decide)), (if_neg h_19).symm⟩)
        | exact wm_dret G R9 dX5_depth_23 (Or.inl ⟨by rw [g4]; exact (gc.resolve_right (fun q => h_11 q.1)).2, f4⟩)
