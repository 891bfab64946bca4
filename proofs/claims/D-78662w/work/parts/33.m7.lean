/-! THE MODEL: wet cells, saving, joining -/
set_option maxRecDepth 100000
set_option maxHeartbeats 4000000 in
theorem ct_isWet {g : GV} (hg : GOk g) {ad : Nat → Nat} {M : Nat → Int → Int} (hL : okL (M 0)) (hK : okK (M 0)) {c : Int} (hc : isC (M 0) c) : CMi g ad yX5_isWet cX5_isWet 3 2 .boolean [iV c] M (fun z M' => fr [13, 14] M M' ∧ isB z (wetP (M 0) c)) := by
  refine wm_ofi hg (by decide +kernel) (Nat.le_of_ble_eq_true rfl) (fun F G R9 => ?_)
  have G : FxOk g F cX5_isWet RX5 3 2 := G
  refine wp_loc (L' := [(0, _), (1, _)]) rfl ?_
  refine wp_aload_n (pc := 0) G dX5_isWet_0 rfl 0 rfl ?_
  refine wp_iload_n (pc := 1) G dX5_isWet_1 rfl 1 rfl ?_
  refine wm_calli1 (pc := 2) G dX5_isWet_2 kX5_133 (ct_lakeOf hg hK (hc.lt hL)) (by decide) (by decide) (Nat.le_of_ble_eq_true rfl) (fun z_2 M_2 h_2 => ?_)
  obtain ⟨rfl, h_2⟩ := h_2
  subst h_2
  have hlr := lakeZ_r (az := M 0) c
  refine wp_istore_n (L' := [(2, _), (0, _), (1, _)]) (pc := 5) G dX5_isWet_5 rfl (by decide) rfl ?_
  refine wp_iload_n (pc := 6) G dX5_isWet_6 rfl 0 rfl ?_
  refine wp_iconst (pc := 7) G dX5_isWet_7 ?_
  refine wp_icmp_ne (tgt := 13) (pc := 8) G dX5_isWet_8 (by omega) (by omega) (by decide) (fun h_8 => ?_) (fun h_8 => ?_)
  · refine wp_aload_n (pc := 13) G dX5_isWet_13 rfl 1 rfl ?_
    refine wp_iload_n (pc := 14) G dX5_isWet_14 rfl 0 rfl ?_
    refine wm_callv1 (pc := 15) G dX5_isWet_15 kX5_162 (ct_levels hg hL hK (by omega) rfl rfl ⟨c, hc, (lakeZ_in h_8).2⟩) (by decide) (by decide) (Nat.le_of_ble_eq_true rfl) (fun M_15 h_15 => ?_)
    obtain ⟨hf, hlv⟩ := h_15
    generalize M_15 = M1 at hf hlv ⊢
    have hz : M1 0 = M 0 := hf 0 (by decide)
    have hsb := LV_r hL hlv (hK.1 (lakeZ (M 0) c) (by omega)).2.1
    have hh := hL.hg (hc.lt hL)
    have hpr : 0 ≤ M1 14 0 * hgt (M 0) c ∧ M1 14 0 * hgt (M 0) c ≤ 36 * 99 := ⟨Int.mul_nonneg (by omega) (by omega), Int.mul_le_mul (by omega) (by omega) (by omega) (by omega)⟩
    refine wp_aload_n (pc := 18) G dX5_isWet_18 rfl 1 rfl ?_
    refine wm_get_13 (pc := 19) G dX5_isWet_19 fX5_159_4 ?_
    refine wp_aload_n (pc := 22) G dX5_isWet_22 rfl 1 rfl ?_
    refine wm_get_14 (pc := 23) G dX5_isWet_23 fX5_155_4 ?_
    refine wp_aload_n (pc := 26) G dX5_isWet_26 rfl 1 rfl ?_
    refine wp_iload_n (pc := 27) G dX5_isWet_27 rfl 2 rfl ?_
    refine wm_calli1 (pc := 28) G dX5_isWet_28 kX5_87 (ct_height hg (by have := hc.lt hL; omega)) (by decide) (by decide) (Nat.le_of_ble_eq_true rfl) (fun z_28 M_28 h_28 => ?_)
    obtain ⟨rfl, h_28⟩ := h_28
    rw [hz] at h_28
    subst h_28
    refine wp_i2l (pc := 31) G dX5_isWet_31 (by omega) ?_
    refine wp_lmul (pc := 32) G dX5_isWet_32 ?_
    refine wp_lcmp_le (tgt := 41) (pc := 33) G dX5_isWet_33 dX5_isWet_34 (by omega) (by omega) (by decide) (fun h_33 => ?_) (fun h_33 => ?_)
    · refine wp_iconst (pc := 41) G dX5_isWet_41 ?_
      first
        | exact wm_zret (pc := 42) G R9 dX5_isWet_42 (by decide) ⟨hf, isB.i1 ((wetP_LV h_8 hlv).mpr h_33)⟩
        | exact wm_zret (pc := 42) G R9 dX5_isWet_42 (by decide) ⟨hf, isB.i0 (fun q => by have := (wetP_LV h_8 hlv).mp q; omega)⟩
    · refine wp_iconst (pc := 37) G dX5_isWet_37 ?_
      refine wp_goto (tgt := 42) (pc := 38) G dX5_isWet_38 (by decide) ?_
      first
        | exact wm_zret (pc := 42) G R9 dX5_isWet_42 (by decide) ⟨hf, isB.i1 ((wetP_LV h_8 hlv).mpr h_33)⟩
        | exact wm_zret (pc := 42) G R9 dX5_isWet_42 (by decide) ⟨hf, isB.i0 (fun q => by have := (wetP_LV h_8 hlv).mp q; omega)⟩
  · refine wp_iconst (pc := 11) G dX5_isWet_11 ?_
    exact wm_zret (pc := 12) G R9 dX5_isWet_12 (by decide) ⟨fr.rf, isB.i0 (fun q => q.1 h_8)⟩
set_option maxHeartbeats 4000000 in
theorem ct_wetOf {g : GV} (hg : GOk g) {ad : Nat → Nat} {M : Nat → Int → Int} (hL : okL (M 0)) (hK : okK (M 0)) {m : Int} (hm : okS m) : CMi g ad yX5_wetOf cX5_wetOf 5 3 .int [jV m] M (fun z M' => fr [13, 14] M M' ∧ z = wetZ (M 0) m) := by
  refine wm_ofi hg (by decide +kernel) (Nat.le_of_ble_eq_true rfl) (fun F G R9 => ?_)
  have G : FxOk g F cX5_wetOf RX5 5 3 := G
  refine wp_loc (L' := [(0, _), (1, _)]) rfl ?_
  have hmm := hL.m
  have hm2 : 0 ≤ m ∧ m < 4611686018427387904 := by omega
  have loop : ∀ (n : Nat) (c r : Int) (M1 : Nat → Int → Int), (0 ≤ c ∧ c ≤ mny (M 0)) → (mny (M 0) + 1 ≤ c + n) → (fr [13, 14] M M1) → (r = cntP (fun c => inS m c ∧ wetP (M 0) c) c.toNat) → Wp g F [MB g ad M1] 0 0 5 [(4, iV c), (3, iV r), (0, .ref (ad 25)), (1, jV m)] [] := by
    intro n
    induction n with
    | zero =>
      intro c r M1 hc hn hf hr
      exfalso
      omega
    | succ n ih =>
      intro c r M1 hc hn hf hr
      have hz : M1 0 = M 0 := hf 0 (by decide)
      refine wp_iload (pc := 5) G dX5_wetOf_5 0 rfl ?_
      refine wp_aload_n (pc := 7) G dX5_wetOf_7 rfl 2 rfl ?_
      refine wm_calli0 (pc := 8) G dX5_wetOf_8 kX5_61 (ct_many hg) (by decide) (by decide) (Nat.le_of_ble_eq_true rfl) (fun z_8 M_8 h_8 => ?_)
      obtain ⟨rfl, h_8⟩ := h_8
      rw [hz] at h_8
      subst h_8
      refine wp_icmp_ge (tgt := 46) (pc := 11) G dX5_wetOf_11 (by omega) (by omega) (by decide) (fun h_11 => ?_) (fun h_11 => ?_)
      · refine wp_iload_n (pc := 46) G dX5_wetOf_46 rfl 1 rfl ?_
        exact wm_iret (pc := 47) G R9 dX5_wetOf_47 ⟨hf, by rw [hr, show c = mny (M 0) by omega]; rfl⟩
      · have hcC : isC (M 0) c := ⟨hc.1, h_11⟩
        have hcl := hcC.lt hL
        refine wp_iload_n (pc := 14) G dX5_wetOf_14 rfl 1 rfl ?_
        refine wp_lload_n (pc := 15) G dX5_wetOf_15 rfl 3 rfl ?_
        refine wp_iload (pc := 16) G dX5_wetOf_16 0 rfl ?_
        refine ws_calli2 (pc := 18) G dX5_wetOf_18 kX5_91 (ct_has hg hm2 (by omega)) (by decide) (by decide) (Nat.le_of_ble_eq_true rfl) (fun z_18 h_18 => ?_)
        refine wp_if_eq (tgt := 37) (pc := 21) G dX5_wetOf_21 h_18.r (by decide) (fun h_21 => ?_) (fun h_21 => ?_)
        · have h_21 := h_18.f h_21
          refine wp_iconst (pc := 37) G dX5_wetOf_37 ?_
          refine wp_iadd (pc := 38) G dX5_wetOf_38 ?_
          refine wp_istore_n (L' := [(3, _), (4, _), (0, _), (1, _)]) (pc := 39) G dX5_wetOf_39 rfl (by decide) rfl ?_
          refine wp_iinc (L' := [(4, _), (3, _), (0, _), (1, _)]) (pc := 40) G dX5_wetOf_40 1 rfl (by decide) rfl ?_
          refine wp_goto (tgt := 5) (pc := 43) G dX5_wetOf_43 (by decide) ?_
          first
            | exact ih (c + 1) (r + 1) _ (by omega) (by omega) (hf.tr hf2) (by rw [cntP_y hc.1 ⟨h_21, hwb.t (by omega)⟩, hr])
            | exact ih (c + 1) (r + 0) _ (by omega) (by omega) (hf.tr hf2) (by rw [cntP_n hc.1 (fun q => hwb.f (by omega) q.2), hr, Int.add_zero])
            | exact ih (c + 1) (r + 0) _ (by omega) (by omega) hf (by rw [cntP_n hc.1 (fun q => h_21 q.1), hr, Int.add_zero])
        · have h_21 := h_18.t h_21
          refine wp_aload_n (pc := 24) G dX5_wetOf_24 rfl 2 rfl ?_
          refine wp_iload (pc := 25) G dX5_wetOf_25 0 rfl ?_
          refine wm_calli1 (pc := 27) G dX5_wetOf_27 kX5_165 (ct_isWet hg (by rw [hz]; exact hL) (by rw [hz]; exact hK) (by rw [hz]; exact hcC)) (by decide) (by decide) (Nat.le_of_ble_eq_true rfl) (fun z_27 M_27 h_27 => ?_)
          obtain ⟨hf2, hwb⟩ := h_27
          rw [hz] at hwb
          have hwz := hwb.z
          refine wp_if_eq (tgt := 37) (pc := 30) G dX5_wetOf_30 (by omega) (by decide) (fun h_30 => ?_) (fun h_30 => ?_)
          · refine wp_iconst (pc := 37) G dX5_wetOf_37 ?_
            refine wp_iadd (pc := 38) G dX5_wetOf_38 ?_
            refine wp_istore_n (L' := [(3, _), (4, _), (0, _), (1, _)]) (pc := 39) G dX5_wetOf_39 rfl (by decide) rfl ?_
            refine wp_iinc (L' := [(4, _), (3, _), (0, _), (1, _)]) (pc := 40) G dX5_wetOf_40 1 rfl (by decide) rfl ?_
            refine wp_goto (tgt := 5) (pc := 43) G dX5_wetOf_43 (by decide) ?_
            first
              | exact ih (c + 1) (r + 1) _ (by omega) (by omega) (hf.tr hf2) (by rw [cntP_y hc.1 ⟨h_21, hwb.t (by omega)⟩, hr])
              | exact ih (c + 1) (r + 0) _ (by omega) (by omega) (hf.tr hf2) (by rw [cntP_n hc.1 (fun q => hwb.f (by omega) q.2), hr, Int.add_zero])
              | exact ih (c + 1) (r + 0) _ (by omega) (by omega) hf (by rw [cntP_n hc.1 (fun q => h_21 q.1), hr, Int.add_zero])
          · refine wp_iconst (pc := 33) G dX5_wetOf_33 ?_
            refine wp_goto (tgt := 38) (pc := 34) G dX5_wetOf_34 (by decide) ?_
            refine wp_iadd (pc := 38) G dX5_wetOf_38 ?_
            refine wp_istore_n (L' := [(3, _), (4, _), (0, _), (1, _)]) (pc := 39) G dX5_wetOf_39 rfl (by decide) rfl ?_
            refine wp_iinc (L' := [(4, _), (3, _), (0, _), (1, _)]) (pc := 40) G dX5_wetOf_40 1 rfl (by decide) rfl ?_
            refine wp_goto (tgt := 5) (pc := 43) G dX5_wetOf_43 (by decide) ?_
            first
              | exact ih (c + 1) (r + 1) _ (by omega) (by omega) (hf.tr hf2) (by rw [cntP_y hc.1 ⟨h_21, hwb.t (by omega)⟩, hr])
              | exact ih (c + 1) (r + 0) _ (by omega) (by omega) (hf.tr hf2) (by rw [cntP_n hc.1 (fun q => hwb.f (by omega) q.2), hr, Int.add_zero])
              | exact ih (c + 1) (r + 0) _ (by omega) (by omega) hf (by rw [cntP_n hc.1 (fun q => h_21 q.1), hr, Int.add_zero])
  refine wp_iconst (pc := 0) G dX5_wetOf_0 ?_
  refine wp_istore_n (L' := [(3, _), (0, _), (1, _)]) (pc := 1) G dX5_wetOf_1 rfl (by decide) rfl ?_
  refine wp_iconst (pc := 2) G dX5_wetOf_2 ?_
  refine wp_istore (L' := [(4, _), (3, _), (0, _), (1, _)]) (pc := 3) G dX5_wetOf_3 (by decide) rfl ?_
  exact loop 37 0 0 M (by omega) (by omega) fr.rf rfl
theorem okS_full {n : Int} (hn : 0 ≤ n ∧ n ≤ 36) : okS (2 ^ n.toNat - 1) ∧ ∀ c, 0 ≤ c → (inS (2 ^ n.toNat - 1) c ↔ c < n) := by
  have h1 : 0 < 2 ^ n.toNat := Nat.pow_pos (by decide)
  have h2 : 2 ^ n.toNat ≤ 2 ^ 36 := Nat.pow_le_pow_right (by decide) (by omega)
  have e : (2 : Int) ^ n.toNat - 1 = ((2 ^ n.toNat - 1 : Nat) : Int) := by rw [two_p]; omega
  rw [e]
  refine ⟨by omega, fun c hc => ?_⟩
  unfold inS
  rw [Int.toNat_natCast, Nat.testBit_two_pow_sub_one]
  simp only [decide_eq_true_eq]
  omega
/-- how many cells are wet -/
noncomputable def wetN (az : Int → Int) : Int := cntP (wetP az) (mny az).toNat
set_option maxHeartbeats 4000000 in
theorem ct_wet {g : GV} (hg : GOk g) {ad : Nat → Nat} {M : Nat → Int → Int} (hL : okL (M 0)) (hK : okK (M 0)) : CMi g ad yX5_wet cX5_wet 1 4 .int [] M (fun z M' => fr [13, 14] M M' ∧ z = wetN (M 0)) := by
  have hmm := hL.m
  have hfu := okS_full (n := mny (M 0)) (by omega)
  refine wm_ofi hg (by decide +kernel) (Nat.le_of_ble_eq_true rfl) (fun F G R9 => ?_)
  have G : FxOk g F cX5_wet RX5 1 4 := G
  refine wp_loc (L' := [(0, _)]) rfl ?_
  refine wp_aload_n (pc := 0) G dX5_wet_0 rfl 0 rfl ?_
  refine wp_lconst1 (pc := 1) G dX5_wet_1 ?_
  refine wp_aload_n (pc := 2) G dX5_wet_2 rfl 0 rfl ?_
  refine wm_calli0 (pc := 3) G dX5_wet_3 kX5_61 (ct_many hg) (by decide) (by decide) (Nat.le_of_ble_eq_true rfl) (fun z_3 M_3 h_3 => ?_)
  obtain ⟨rfl, h_3⟩ := h_3
  subst h_3
  refine wp_bit (pc := 6) G dX5_wet_6 (by omega) ?_
  refine wp_lconst1 (pc := 7) G dX5_wet_7 ?_
  refine wp_lsub (pc := 8) G dX5_wet_8 ?_
  refine wm_calli1 (pc := 9) G dX5_wet_9 kX5_168 (ct_wetOf hg hL hK hfu.1) (by decide) (by decide) (Nat.le_of_ble_eq_true rfl) (fun z_9 M_9 h_9 => ?_)
  obtain ⟨hf, rfl⟩ := h_9
  exact wm_iret (pc := 12) G R9 dX5_wet_12 ⟨hf, by unfold wetZ wetN; exact cntP_e _ (fun c hc => ⟨fun q => q.2, fun q => ⟨(hfu.2 c hc.1).mpr (by omega), q⟩⟩)⟩
def okB (az : Int → Int) : Prop := ∀ c, isC az c → -1 ≤ az (116 + c) ∧ az (116 + c) < 36
noncomputable def seaZ (az : Int → Int) : Int := cntP (fun c => az (116 + c) = -1) (mny az).toNat
set_option maxHeartbeats 4000000 in
theorem ct_seaCells {g : GV} (hg : GOk g) {ad : Nat → Nat} {M : Nat → Int → Int} (hL : okL (M 0)) (hB : okB (M 0)) : CMi g ad yX5_seaCells cX5_seaCells 3 1 .int [] M (fun z M' => M = M' ∧ z = seaZ (M 0)) := by
  refine wm_ofi hg (by decide +kernel) (Nat.le_of_ble_eq_true rfl) (fun F G R9 => ?_)
  have G : FxOk g F cX5_seaCells RX5 3 1 := G
  refine wp_loc (L' := [(0, _)]) rfl ?_
  have hmm := hL.m
  have loop : ∀ (n : Nat) (c r : Int), (0 ≤ c ∧ c ≤ mny (M 0)) → (mny (M 0) + 1 ≤ c + n) → (r = cntP (fun c => M 0 (116 + c) = -1) c.toNat) → Wp g F [MB g ad M] 0 0 4 [(2, iV c), (1, iV r), (0, .ref (ad 25))] [] := by
    intro n
    induction n with
    | zero =>
      intro c r hc hn hr
      exfalso
      omega
    | succ n ih =>
      intro c r hc hn hr
      refine wp_iload_n (pc := 4) G dX5_seaCells_4 rfl 0 rfl ?_
      refine wp_aload_n (pc := 5) G dX5_seaCells_5 rfl 2 rfl ?_
      refine wm_calli0 (pc := 6) G dX5_seaCells_6 kX5_61 (ct_many hg) (by decide) (by decide) (Nat.le_of_ble_eq_true rfl) (fun z_6 M_6 h_6 => ?_)
      obtain ⟨rfl, h_6⟩ := h_6
      subst h_6
      refine wp_icmp_ge (tgt := 42) (pc := 9) G dX5_seaCells_9 (by omega) (by omega) (by decide) (fun h_9 => ?_) (fun h_9 => ?_)
      · refine wp_iload_n (pc := 42) G dX5_seaCells_42 rfl 1 rfl ?_
        exact wm_iret (pc := 43) G R9 dX5_seaCells_43 ⟨rfl, by rw [hr, show c = mny (M 0) by omega]; rfl⟩
      · have hcb := hB c ⟨hc.1, h_9⟩
        refine wp_iload_n (pc := 12) G dX5_seaCells_12 rfl 1 rfl ?_
        refine wp_aload_n (pc := 13) G dX5_seaCells_13 rfl 2 rfl ?_
        refine wm_get_0 (pc := 14) G dX5_seaCells_14 fX5_7_4 ?_
        refine wp_bipush (pc := 17) G dX5_seaCells_17 (by decide) ?_
        refine wp_iload_n (pc := 19) G dX5_seaCells_19 rfl 0 rfl ?_
        refine wp_iadd (pc := 20) G dX5_seaCells_20 ?_
        refine wm_ald_0 (pc := 21) G dX5_seaCells_21 (by omega) ?_
        refine wp_ldc2 (z := -1) (pc := 22) G dX5_seaCells_22 q2055 (by decide +kernel) ?_
        refine wp_lcmp_ne (tgt := 33) (pc := 25) G dX5_seaCells_25 dX5_seaCells_26 (by omega) (by omega) (by decide) (fun h_25 => ?_) (fun h_25 => ?_)
        · refine wp_iconst (pc := 33) G dX5_seaCells_33 ?_
          refine wp_iadd (pc := 34) G dX5_seaCells_34 ?_
          refine wp_istore_n (L' := [(1, _), (2, _), (0, _)]) (pc := 35) G dX5_seaCells_35 rfl (by decide) rfl ?_
          refine wp_iinc (L' := [(2, _), (1, _), (0, _)]) (pc := 36) G dX5_seaCells_36 1 rfl (by decide) rfl ?_
          refine wp_goto (tgt := 4) (pc := 39) G dX5_seaCells_39 (by decide) ?_
          first
            | exact ih (c + 1) (r + 1) (by omega) (by omega) (by rw [cntP_y hc.1 h_25, hr])
            | exact ih (c + 1) (r + 0) (by omega) (by omega) (by rw [cntP_n hc.1 h_25, hr, Int.add_zero])
        · refine wp_iconst (pc := 29) G dX5_seaCells_29 ?_
          refine wp_goto (tgt := 34) (pc := 30) G dX5_seaCells_30 (by decide) ?_
          refine wp_iadd (pc := 34) G dX5_seaCells_34 ?_
          refine wp_istore_n (L' := [(1, _), (2, _), (0, _)]) (pc := 35) G dX5_seaCells_35 rfl (by decide) rfl ?_
          refine wp_iinc (L' := [(2, _), (1, _), (0, _)]) (pc := 36) G dX5_seaCells_36 1 rfl (by decide) rfl ?_
          refine wp_goto (tgt := 4) (pc := 39) G dX5_seaCells_39 (by decide) ?_
          first
            | exact ih (c + 1) (r + 1) (by omega) (by omega) (by rw [cntP_y hc.1 h_25, hr])
            | exact ih (c + 1) (r + 0) (by omega) (by omega) (by rw [cntP_n hc.1 h_25, hr, Int.add_zero])
  refine wp_iconst (pc := 0) G dX5_seaCells_0 ?_
  refine wp_istore_n (L' := [(1, _), (0, _)]) (pc := 1) G dX5_seaCells_1 rfl (by decide) rfl ?_
  refine wp_iconst (pc := 2) G dX5_seaCells_2 ?_
  refine wp_istore_n (L' := [(2, _), (1, _), (0, _)]) (pc := 3) G dX5_seaCells_3 rfl (by decide) rfl ?_
  exact loop 37 0 0 (by omega) (by omega) rfl
def balZ (az : Int → Int) (w : Int) : Int := if w = 0 then az 5 else if w = 1 then waterZ az else if w = 2 then az 3 else az 4
set_option maxHeartbeats 4000000 in
theorem ct_balanceOf {g : GV} (hg : GOk g) {ad : Nat → Nat} {M : Nat → Int → Int} (hK : okK (M 0)) {w : Int} (hw : 0 ≤ w ∧ w ≤ 3) : CMl g ad yX5_balanceOf cX5_balanceOf 2 1 [iV w] M (fun z M' => M = M' ∧ z = balZ (M 0) w) := by
  refine wm_ofl hg (by decide +kernel) (Nat.le_of_ble_eq_true rfl) (fun F G R9 => ?_)
  have G : FxOk g F cX5_balanceOf RX5 2 1 := G
  refine wp_loc (L' := [(0, _), (1, _)]) rfl ?_
  refine wp_iload_n (pc := 0) G dX5_balanceOf_0 rfl 1 rfl ?_
  refine wp_if_ne (tgt := 13) (pc := 1) G dX5_balanceOf_1 (by omega) (by decide) (fun h_1 => ?_) (fun h_1 => ?_)
  · refine wp_iload_n (pc := 13) G dX5_balanceOf_13 rfl 1 rfl ?_
    refine wp_iconst (pc := 14) G dX5_balanceOf_14 ?_
    refine wp_icmp_ne (tgt := 25) (pc := 15) G dX5_balanceOf_15 (by omega) (by omega) (by decide) (fun h_15 => ?_) (fun h_15 => ?_)
    · refine wp_iload_n (pc := 25) G dX5_balanceOf_25 rfl 1 rfl ?_
      refine wp_iconst (pc := 26) G dX5_balanceOf_26 ?_
      refine wp_icmp_ne (tgt := 39) (pc := 27) G dX5_balanceOf_27 (by omega) (by omega) (by decide) (fun h_27 => ?_) (fun h_27 => ?_)
      · refine wp_aload_n (pc := 39) G dX5_balanceOf_39 rfl 0 rfl ?_
        refine wm_get_0 (pc := 40) G dX5_balanceOf_40 fX5_7_4 ?_
        refine wp_iconst (pc := 43) G dX5_balanceOf_43 ?_
        refine wm_ald_0 (pc := 44) G dX5_balanceOf_44 (by omega) ?_
        exact wm_lret (pc := 45) G R9 dX5_balanceOf_45 ⟨rfl, by unfold balZ; first | rw [if_pos h_1] | rw [if_neg h_1, if_pos h_15] | rw [if_neg h_1, if_neg h_15, if_pos h_27] | rw [if_neg h_1, if_neg h_15, if_neg h_27]⟩
      · refine wp_aload_n (pc := 30) G dX5_balanceOf_30 rfl 0 rfl ?_
        refine wm_get_0 (pc := 31) G dX5_balanceOf_31 fX5_7_4 ?_
        refine wp_iconst (pc := 34) G dX5_balanceOf_34 ?_
        refine wm_ald_0 (pc := 35) G dX5_balanceOf_35 (by omega) ?_
        refine wp_goto (tgt := 45) (pc := 36) G dX5_balanceOf_36 (by decide) ?_
        exact wm_lret (pc := 45) G R9 dX5_balanceOf_45 ⟨rfl, by unfold balZ; first | rw [if_pos h_1] | rw [if_neg h_1, if_pos h_15] | rw [if_neg h_1, if_neg h_15, if_pos h_27] | rw [if_neg h_1, if_neg h_15, if_neg h_27]⟩
    · refine wp_aload_n (pc := 18) G dX5_balanceOf_18 rfl 0 rfl ?_
      refine wm_calll0 (pc := 19) G dX5_balanceOf_19 kX5_230 (ct_water hg hK) (by decide) (by decide) (Nat.le_of_ble_eq_true rfl) (fun z_19 M_19 h_19 => ?_)
      obtain ⟨rfl, h_19⟩ := h_19
      subst h_19
      refine wp_goto (tgt := 45) (pc := 22) G dX5_balanceOf_22 (by decide) ?_
      exact wm_lret (pc := 45) G R9 dX5_balanceOf_45 ⟨rfl, by unfold balZ; first | rw [if_pos h_1] | rw [if_neg h_1, if_pos h_15] | rw [if_neg h_1, if_neg h_15, if_pos h_27] | rw [if_neg h_1, if_neg h_15, if_neg h_27]⟩
  · refine wp_aload_n (pc := 4) G dX5_balanceOf_4 rfl 0 rfl ?_
    refine wm_get_0 (pc := 5) G dX5_balanceOf_5 fX5_7_4 ?_
    refine wp_iconst (pc := 8) G dX5_balanceOf_8 ?_
    refine wm_ald_0 (pc := 9) G dX5_balanceOf_9 (by omega) ?_
    refine wp_goto (tgt := 45) (pc := 10) G dX5_balanceOf_10 (by decide) ?_
    exact wm_lret (pc := 45) G R9 dX5_balanceOf_45 ⟨rfl, by unfold balZ; first | rw [if_pos h_1] | rw [if_neg h_1, if_pos h_15] | rw [if_neg h_1, if_neg h_15, if_pos h_27] | rw [if_neg h_1, if_neg h_15, if_neg h_27]⟩
set_option maxHeartbeats 4000000 in
theorem ct_save {g : GV} (hg : GOk g) {ad : Nat → Nat} {M : Nat → Int → Int} (h3 : 0 ≤ M 3 0 ∧ M 3 0 ≤ 4) : CMv g ad yX5_save cX5_save 2 0 [] M (fun M' => M' = saveM M) := by
  refine wm_ofv hg (by decide +kernel) (Nat.le_of_ble_eq_true rfl) (fun F G R9 => ?_)
  have G : FxOk g F cX5_save RX5 2 0 := G
  refine wp_loc (L' := [(0, _)]) rfl ?_
  have loop2 : ∀ (n : Nat) (k sm : Int) (f : Int → Int) (M1 : Nat → Int → Int), (0 ≤ k ∧ k ≤ 513) → (514 ≤ k + n) → (0 ≤ sm ∧ sm ≤ 3) → (fr [1, 3] M M1) → (M1 3 0 = sm) → (∀ j, M1 1 j = if 513 * sm ≤ j ∧ j < 513 * sm + k then M 0 (j - 513 * sm) else f j) → (saveM M = mA (mA M 1 (svF f (M 0) sm)) 3 (fun _ => sm + 1)) → Wp g F [MB g ad M1] 0 0 51 [(1, iV k), (0, .ref (ad 25))] [] := by
    intro n
    induction n with
    | zero =>
      intro k sm f M1 hk hn hsm hf h3 h1 he
      exfalso
      omega
    | succ n ih =>
      intro k sm f M1 hk hn hsm hf h3 h1 he
      refine wp_iload_n (pc := 51) G dX5_save_51 rfl 0 rfl ?_
      refine wp_sipush (pc := 52) G dX5_save_52 (by decide) ?_
      refine wp_icmp_ge (tgt := 85) (pc := 55) G dX5_save_55 (by omega) (by omega) (by decide) (fun h_55 => ?_) (fun h_55 => ?_)
      · refine wp_aload_n (pc := 85) G dX5_save_85 rfl 1 rfl ?_
        refine wp_dup (pc := 86) G dX5_save_86 rfl ?_
        refine wm_get_3 (pc := 87) G dX5_save_87 fX5_58_4 ?_
        refine wp_iconst (pc := 90) G dX5_save_90 ?_
        refine wp_iadd (pc := 91) G dX5_save_91 ?_
        refine wm_put_3 (pc := 92) G dX5_save_92 fX5_58_4 ?_
        refine wm_norm (M' := saveM M) ?_ (wm_vret (pc := 95) G R9 dX5_save_95 rfl)
        rw [he]
        intro q hq
        by_cases e1 : q = 1
        · subst e1
          rw [if_pos (show mArr 1 = true from rfl)]
          intro j hj
          show M1 1 j = svF f (M 0) sm j
          rw [h1, show k = 513 by omega]
          unfold svF
          by_cases e2 : 513 * sm ≤ j ∧ j < 513 * sm + 513
          · rw [if_pos e2, if_pos (by omega)]
          · rw [if_neg e2, if_neg (by omega)]
        · by_cases e3 : q = 3
          · subst e3
            rw [if_neg (show ¬ mArr 3 = true by decide)]
            show M1 3 0 + 1 = sm + 1
            rw [h3]
          · have e4 : ms1 M1 3 (M1 3 0 + 1) q = M q := by
              simp only [ms1, if_neg e3]
              exact hf q (by simp [e1, e3])
            have e5 : mA (mA M 1 (svF f (M 0) sm)) 3 (fun _ => sm + 1) q = M q := by simp only [mA, if_neg e3, if_neg e1]
            rw [e4, e5]
            split
            · exact fun _ _ => rfl
            · rfl
      · refine wp_aload_n (pc := 58) G dX5_save_58 rfl 1 rfl ?_
        refine wm_get_1 (pc := 59) G dX5_save_59 fX5_13_4 ?_
        refine wp_sipush (pc := 62) G dX5_save_62 (by decide) ?_
        refine wp_aload_n (pc := 65) G dX5_save_65 rfl 1 rfl ?_
        refine wm_get_3 (pc := 66) G dX5_save_66 fX5_58_4 ?_
        refine wp_imul (pc := 69) G dX5_save_69 ?_
        refine wp_iload_n (pc := 70) G dX5_save_70 rfl 0 rfl ?_
        refine wp_iadd (pc := 71) G dX5_save_71 ?_
        refine wp_aload_n (pc := 72) G dX5_save_72 rfl 1 rfl ?_
        refine wm_get_0 (pc := 73) G dX5_save_73 fX5_7_4 ?_
        refine wp_iload_n (pc := 76) G dX5_save_76 rfl 0 rfl ?_
        refine wm_ald_0 (pc := 77) G dX5_save_77 (by omega) ?_
        refine wm_ast_1 (pc := 78) G dX5_save_78 (by rw [h3]; omega) ?_
        refine wp_iinc (L' := [(1, _), (0, _)]) (pc := 79) G dX5_save_79 0 rfl (by decide) rfl ?_
        refine wp_goto (tgt := 51) (pc := 82) G dX5_save_82 (by decide) ?_
        have hz : M1 0 = M 0 := hf 0 (by decide)
        exact ih (k + 1) sm f _ (by omega) (by omega) hsm (hf.a1 (by decide)) h3 (fun j => by
          rw [ma1_s, h3, hz]
          by_cases e : j = 513 * sm + k
          · rw [e, fup_s, if_pos (by omega), show 513 * sm + k - 513 * sm = k by omega]
          · rw [fup_n _ _ e, h1]
            by_cases e2 : 513 * sm ≤ j ∧ j < 513 * sm + k
            · rw [if_pos e2, if_pos (by omega)]
            · rw [if_neg e2, if_neg (by omega)]) he
  refine wp_aload_n (pc := 0) G dX5_save_0 rfl 0 rfl ?_
  refine wm_get_3 (pc := 1) G dX5_save_1 fX5_58_4 ?_
  refine wp_iconst (pc := 4) G dX5_save_4 ?_
  refine wp_icmp_ne (tgt := 49) (pc := 5) G dX5_save_5 (by omega) (by omega) (by decide) (fun h_5 => ?_) (fun h_5 => ?_)
  · refine wp_iconst (pc := 49) G dX5_save_49 ?_
    refine wp_istore_n (L' := [(1, _), (0, _)]) (pc := 50) G dX5_save_50 rfl (by decide) rfl ?_
    exact loop2 514 0 (M 3 0) (M 1) M (by omega) (by omega) (by omega) fr.rf rfl (fun j => by rw [if_neg (by omega)]) (by unfold saveM; rw [if_neg h_5])
  · refine wp_iconst (pc := 8) G dX5_save_8 ?_
    refine wp_istore_n (L' := [(1, _), (0, _)]) (pc := 9) G dX5_save_9 rfl (by decide) rfl ?_
    have hs4 := h_5
    have loop1 : ∀ (n : Nat) (k : Int) (M1 : Nat → Int → Int), (0 ≤ k ∧ k ≤ 1539) → (1540 ≤ k + n) → (fr [1, 3] M M1) → (M1 3 0 = 4) → (∀ j, M1 1 j = if 0 ≤ j ∧ j < k then M 1 (j + 513) else M 1 j) → Wp g F [MB g ad M1] 0 0 10 [(1, iV k), (0, .ref (ad 25))] [] := by
      intro n
      induction n with
      | zero =>
        intro k M1 hk hn hf h3 h1
        exfalso
        omega
      | succ n ih =>
        intro k M1 hk hn hf h3 h1
        refine wp_iload_n (pc := 10) G dX5_save_10 rfl 0 rfl ?_
        refine wp_sipush (pc := 11) G dX5_save_11 (by decide) ?_
        refine wp_icmp_ge (tgt := 39) (pc := 14) G dX5_save_14 (by omega) (by omega) (by decide) (fun h_14 => ?_) (fun h_14 => ?_)
        · refine wp_aload_n (pc := 39) G dX5_save_39 rfl 1 rfl ?_
          refine wp_dup (pc := 40) G dX5_save_40 rfl ?_
          refine wm_get_3 (pc := 41) G dX5_save_41 fX5_58_4 ?_
          refine wp_iconst (pc := 44) G dX5_save_44 ?_
          refine wp_isub (pc := 45) G dX5_save_45 ?_
          refine wm_put_3 (pc := 46) G dX5_save_46 fX5_58_4 ?_
          refine wp_iconst (pc := 49) G dX5_save_49 ?_
          refine wp_istore_n (L' := [(1, _), (0, _)]) (pc := 50) G dX5_save_50 rfl (by decide) rfl ?_
          refine wp_loc (L' := [(1, _), (0, _)]) rfl ?_
          exact loop2 514 0 3 (shF (M 1)) _ (by omega) (by omega) (by omega) (hf.s1 (by decide)) (by show M1 3 0 - 1 = 3; rw [h3]; rfl) (fun j => by
            rw [if_neg (by omega)]
            show M1 1 j = _
            rw [h1, show k = 1539 by omega]
            rfl) (by unfold saveM; rw [if_pos hs4]; rfl)
        · refine wp_aload_n (pc := 17) G dX5_save_17 rfl 1 rfl ?_
          refine wm_get_1 (pc := 18) G dX5_save_18 fX5_13_4 ?_
          refine wp_iload_n (pc := 21) G dX5_save_21 rfl 0 rfl ?_
          refine wp_aload_n (pc := 22) G dX5_save_22 rfl 1 rfl ?_
          refine wm_get_1 (pc := 23) G dX5_save_23 fX5_13_4 ?_
          refine wp_iload_n (pc := 26) G dX5_save_26 rfl 0 rfl ?_
          refine wp_sipush (pc := 27) G dX5_save_27 (by decide) ?_
          refine wp_iadd (pc := 30) G dX5_save_30 ?_
          refine wm_ald_1 (pc := 31) G dX5_save_31 (by omega) ?_
          refine wm_ast_1 (pc := 32) G dX5_save_32 (by omega) ?_
          refine wp_iinc (L' := [(1, _), (0, _)]) (pc := 33) G dX5_save_33 0 rfl (by decide) rfl ?_
          refine wp_goto (tgt := 10) (pc := 36) G dX5_save_36 (by decide) ?_
          exact ih (k + 1) _ (by omega) (by omega) (hf.a1 (by decide)) h3 (fun j => by
            rw [ma1_s]
            by_cases e : j = k
            · rw [e, fup_s, if_pos (by omega), h1, if_neg (by omega)]
            · rw [fup_n _ _ e, h1]
              by_cases e2 : 0 ≤ j ∧ j < k
              · rw [if_pos e2, if_pos (by omega)]
              · rw [if_neg e2, if_neg (by omega)])
    exact loop1 1540 0 M (by omega) (by omega) fr.rf h_5 (fun j => by rw [if_neg (by omega)])
set_option maxHeartbeats 4000000 in
theorem ct_begins {g : GV} (hg : GOk g) {ad : Nat → Nat} {M : Nat → Int → Int} {w h : Int} (hw : 1 ≤ w ∧ w ≤ 6) (hh : 1 ≤ h ∧ h ≤ 6) : CMv g ad yX5_begins cX5_begins 4 8 [iV w, iV h] M (fun M' => fr [0, 5] M M' ∧ ∃ az, bareL az w h ∧ Found az (M' 0)) := by
  refine wm_ofv hg (by decide +kernel) (Nat.le_of_ble_eq_true rfl) (fun F G R9 => ?_)
  have G : FxOk g F cX5_begins RX5 4 8 := G
  refine wp_loc (L' := [(0, _), (1, _), (2, _)]) rfl ?_
  have loop : ∀ (n : Nat) (k : Int) (M1 : Nat → Int → Int), (0 ≤ k ∧ k ≤ 513) → (514 ≤ k + n) → (fr [0, 5] M M1) → (∀ j, 0 ≤ j ∧ j < k → M1 0 j = if 44 ≤ j ∧ j < 116 then -1 else 0) → Wp g F [MB g ad M1] 0 0 2 [(3, iV k), (0, .ref (ad 25)), (1, iV w), (2, iV h)] [] := by
    intro n
    induction n with
    | zero =>
      intro k M1 hk hn hf h0
      exfalso
      omega
    | succ n ih =>
      intro k M1 hk hn hf h0
      refine wp_iload_n (pc := 2) G dX5_begins_2 rfl 0 rfl ?_
      refine wp_sipush (pc := 3) G dX5_begins_3 (by decide) ?_
      refine wp_icmp_ge (tgt := 40) (pc := 6) G dX5_begins_6 (by omega) (by omega) (by decide) (fun h_6 => ?_) (fun h_6 => ?_)
      · refine wp_aload_n (pc := 40) G dX5_begins_40 rfl 1 rfl ?_
        refine wm_get_0 (pc := 41) G dX5_begins_41 fX5_7_4 ?_
        refine wp_iconst (pc := 44) G dX5_begins_44 ?_
        refine wp_iload_n (pc := 45) G dX5_begins_45 rfl 2 rfl ?_
        refine wp_i2l (pc := 46) G dX5_begins_46 (by omega) ?_
        refine wm_ast_0 (pc := 47) G dX5_begins_47 (by omega) ?_
        refine wp_aload_n (pc := 48) G dX5_begins_48 rfl 1 rfl ?_
        refine wm_get_0 (pc := 49) G dX5_begins_49 fX5_7_4 ?_
        refine wp_iconst (pc := 52) G dX5_begins_52 ?_
        refine wp_iload_n (pc := 53) G dX5_begins_53 rfl 3 rfl ?_
        refine wp_i2l (pc := 54) G dX5_begins_54 (by omega) ?_
        refine wm_ast_0 (pc := 55) G dX5_begins_55 (by omega) ?_
        have hbare : bareL (ma1 (ma1 M1 0 0 w) 0 1 h 0) w h := by
          rw [ma1_s, ma1_s]
          refine ⟨by rw [fup_n _ _ (by omega), fup_s], by rw [fup_s], fun k hk => ?_, fun k hk hk2 => ?_⟩
          · rw [fup_n _ _ (by omega), fup_n _ _ (by omega), h0 k (by omega), if_pos hk]
          · rw [fup_n _ _ (by omega), fup_n _ _ (by omega), h0 k (by omega), if_neg hk2]
        refine wp_aload_n (pc := 56) G dX5_begins_56 rfl 1 rfl ?_
        refine wm_callv0 (pc := 57) G dX5_begins_57 kX5_174 (ct_finds hg (hbare.ok hw hh)) (by decide) (by decide) (Nat.le_of_ble_eq_true rfl) (fun M_57 h_57 => ?_)
        obtain ⟨hf2, hfo⟩ := h_57
        exact wm_vret (pc := 60) G R9 dX5_begins_60 ⟨((hf.a1 (by decide)).a1 (by decide)).tr hf2, _, hbare, hfo⟩
      · refine wp_aload_n (pc := 9) G dX5_begins_9 rfl 1 rfl ?_
        refine wm_get_0 (pc := 10) G dX5_begins_10 fX5_7_4 ?_
        refine wp_iload_n (pc := 13) G dX5_begins_13 rfl 0 rfl ?_
        refine wp_iload_n (pc := 14) G dX5_begins_14 rfl 0 rfl ?_
        refine wp_bipush (pc := 15) G dX5_begins_15 (by decide) ?_
        refine wp_icmp_lt (tgt := 32) (pc := 17) G dX5_begins_17 (by omega) (by omega) (by decide) (fun h_17 => ?_) (fun h_17 => ?_)
        · refine wp_lconst0 (pc := 32) G dX5_begins_32 ?_
          refine wm_ast_0 (pc := 33) G dX5_begins_33 (by omega) ?_
          refine wp_iinc (L' := [(3, _), (0, _), (1, _), (2, _)]) (pc := 34) G dX5_begins_34 0 rfl (by decide) rfl ?_
          refine wp_goto (tgt := 2) (pc := 37) G dX5_begins_37 (by decide) ?_
          first
            | (have hcd : 44 ≤ k ∧ k < 116 := by omega
               exact ih (k + 1) _ (by omega) (by omega) (hf.a1 (by decide)) (fun j hj => by
                rw [ma1_s]
                by_cases e : j = k
                · rw [e, fup_s, if_pos (by omega)]
                · rw [fup_n _ _ e]; exact h0 j (by omega)))
            | exact ih (k + 1) _ (by omega) (by omega) (hf.a1 (by decide)) (fun j hj => by
                rw [ma1_s]
                by_cases e : j = k
                · rw [e, fup_s, if_neg (by omega)]
                · rw [fup_n _ _ e]; exact h0 j (by omega))
        · refine wp_iload_n (pc := 20) G dX5_begins_20 rfl 0 rfl ?_
          refine wp_bipush (pc := 21) G dX5_begins_21 (by decide) ?_
          refine wp_icmp_ge (tgt := 32) (pc := 23) G dX5_begins_23 (by omega) (by omega) (by decide) (fun h_23 => ?_) (fun h_23 => ?_)
          · refine wp_lconst0 (pc := 32) G dX5_begins_32 ?_
            refine wm_ast_0 (pc := 33) G dX5_begins_33 (by omega) ?_
            refine wp_iinc (L' := [(3, _), (0, _), (1, _), (2, _)]) (pc := 34) G dX5_begins_34 0 rfl (by decide) rfl ?_
            refine wp_goto (tgt := 2) (pc := 37) G dX5_begins_37 (by decide) ?_
            first
              | (have hcd : 44 ≤ k ∧ k < 116 := by omega
                 exact ih (k + 1) _ (by omega) (by omega) (hf.a1 (by decide)) (fun j hj => by
                  rw [ma1_s]
                  by_cases e : j = k
                  · rw [e, fup_s, if_pos (by omega)]
                  · rw [fup_n _ _ e]; exact h0 j (by omega)))
              | exact ih (k + 1) _ (by omega) (by omega) (hf.a1 (by decide)) (fun j hj => by
                  rw [ma1_s]
                  by_cases e : j = k
                  · rw [e, fup_s, if_neg (by omega)]
                  · rw [fup_n _ _ e]; exact h0 j (by omega))
          · refine wp_ldc2 (z := -1) (pc := 26) G dX5_begins_26 q2055 (by decide +kernel) ?_
            refine wp_goto (tgt := 33) (pc := 29) G dX5_begins_29 (by decide) ?_
            refine wm_ast_0 (pc := 33) G dX5_begins_33 (by omega) ?_
            refine wp_iinc (L' := [(3, _), (0, _), (1, _), (2, _)]) (pc := 34) G dX5_begins_34 0 rfl (by decide) rfl ?_
            refine wp_goto (tgt := 2) (pc := 37) G dX5_begins_37 (by decide) ?_
            first
              | (have hcd : 44 ≤ k ∧ k < 116 := by omega
                 exact ih (k + 1) _ (by omega) (by omega) (hf.a1 (by decide)) (fun j hj => by
                  rw [ma1_s]
                  by_cases e : j = k
                  · rw [e, fup_s, if_pos (by omega)]
                  · rw [fup_n _ _ e]; exact h0 j (by omega)))
              | exact ih (k + 1) _ (by omega) (by omega) (hf.a1 (by decide)) (fun j hj => by
                  rw [ma1_s]
                  by_cases e : j = k
                  · rw [e, fup_s, if_neg (by omega)]
                  · rw [fup_n _ _ e]; exact h0 j (by omega))
  refine wp_iconst (pc := 0) G dX5_begins_0 ?_
  refine wp_istore_n (L' := [(3, _), (0, _), (1, _), (2, _)]) (pc := 1) G dX5_begins_1 rfl (by decide) rfl ?_
  exact loop 514 0 M (by omega) (by omega) fr.rf (fun j hj => by omega)
