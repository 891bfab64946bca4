/-! THE MODEL: lakes, second part -/
set_option maxRecDepth 100000
set_option maxHeartbeats 4000000 in
theorem ct_capacity {g : GV} (hg : GOk g) {ad : Nat → Nat} {M : Nat → Int → Int} (hL : okL (M 0)) (hK : okK (M 0)) {k m : Int} (hk : 0 ≤ k ∧ k < 72) (hm : M 0 (152 + k) = m) : CMl g ad yX5_capacity cX5_capacity 5 5 [iV k] M (fun z M' => fr [6, 7, 8] M M' ∧ z = capZ (M 0) m ∧ M' 8 0 = (pass (M 0) m).1 ∧ M' 6 0 = (pass (M 0) m).2.1 ∧ M' 7 0 = (pass (M 0) m).2.2) := by
  refine wm_ofl hg (by decide +kernel) (Nat.le_of_ble_eq_true rfl) (fun F G R9 => ?_)
  have G : FxOk g F cX5_capacity RX5 5 5 := G
  refine wp_loc (L' := [(0, _), (1, _)]) rfl ?_
  have hmk := (hK.1 k hk).1
  rw [hm] at hmk
  have hm2 : 0 ≤ m ∧ m < 4611686018427387904 := by omega
  have hmm := hL.m
  have hpr := pass_r hL m
  refine wp_aload_n (pc := 0) G dX5_capacity_0 rfl 0 rfl ?_
  refine wp_iload_n (pc := 1) G dX5_capacity_1 rfl 1 rfl ?_
  refine wm_callv1 (pc := 2) G dX5_capacity_2 kX5_123 (ct_findsPass hg hL hK hk hm) (by decide) (by decide) (Nat.le_of_ble_eq_true rfl) (fun M_2 h_2 => ?_)
  obtain ⟨hf, e8, e6, e7⟩ := h_2
  generalize M_2 = M1 at hf e8 e6 e7 ⊢
  have hz : M1 0 = M 0 := hf 0 (by decide)
  have loop : ∀ (n : Nat) (c r : Int), (0 ≤ c ∧ c ≤ mny (M 0)) → (mny (M 0) + 1 ≤ c + n) → (r = capS (M 0) m (pass (M 0) m).1 c.toNat) → Wp g F [MB g ad M1] 0 0 10 [(4, iV c), (2, jV r), (0, .ref (ad 25)), (1, iV k)] [] := by
    intro n
    induction n with
    | zero =>
      intro c r hc hn hr
      exfalso
      omega
    | succ n ih =>
      intro c r hc hn hr
      refine wp_iload (pc := 10) G dX5_capacity_10 0 rfl ?_
      refine wp_aload_n (pc := 12) G dX5_capacity_12 rfl 2 rfl ?_
      refine wm_calli0 (pc := 13) G dX5_capacity_13 kX5_61 (ct_many hg) (by decide) (by decide) (Nat.le_of_ble_eq_true rfl) (fun z_13 M_13 h_13 => ?_)
      obtain ⟨rfl, h_13⟩ := h_13
      rw [hz] at h_13
      subst h_13
      refine wp_icmp_ge (tgt := 83) (pc := 16) G dX5_capacity_16 (by omega) (by omega) (by decide) (fun h_16 => ?_) (fun h_16 => ?_)
      · refine wp_aload_n (pc := 83) G dX5_capacity_83 rfl 2 rfl ?_
        refine wm_get_8 (pc := 84) G dX5_capacity_84 fX5_114_4 ?_
        refine wp_iconst (pc := 87) G dX5_capacity_87 ?_
        refine wp_icmp_ne (tgt := 97) (pc := 88) G dX5_capacity_88 (by omega) (by omega) (by decide) (fun h_88 => ?_) (fun h_88 => ?_)
        · refine wp_lload_n (pc := 97) G dX5_capacity_97 rfl 1 rfl ?_
          first
            | exact absurd h_24 h_88
            | exact wm_lret (pc := 98) G R9 dX5_capacity_98 ⟨hf, by unfold capZ; first | rw [if_pos (by omega)] | (rw [if_neg (by omega), hr, show c = mny (M 0) by omega]), e8, e6, e7⟩
        · refine wp_ldc2 (z := -1) (pc := 91) G dX5_capacity_91 q2055 (by decide +kernel) ?_
          refine wp_goto (tgt := 98) (pc := 94) G dX5_capacity_94 (by decide) ?_
          first
            | exact absurd h_24 h_88
            | exact wm_lret (pc := 98) G R9 dX5_capacity_98 ⟨hf, by unfold capZ; first | rw [if_pos (by omega)] | (rw [if_neg (by omega), hr, show c = mny (M 0) by omega]), e8, e6, e7⟩
      · refine wp_aload_n (pc := 19) G dX5_capacity_19 rfl 2 rfl ?_
        refine wm_get_8 (pc := 20) G dX5_capacity_20 fX5_114_4 ?_
        refine wp_iconst (pc := 23) G dX5_capacity_23 ?_
        refine wp_icmp_eq (tgt := 83) (pc := 24) G dX5_capacity_24 (by omega) (by omega) (by decide) (fun h_24 => ?_) (fun h_24 => ?_)
        · refine wp_aload_n (pc := 83) G dX5_capacity_83 rfl 2 rfl ?_
          refine wm_get_8 (pc := 84) G dX5_capacity_84 fX5_114_4 ?_
          refine wp_iconst (pc := 87) G dX5_capacity_87 ?_
          refine wp_icmp_ne (tgt := 97) (pc := 88) G dX5_capacity_88 (by omega) (by omega) (by decide) (fun h_88 => ?_) (fun h_88 => ?_)
          · refine wp_lload_n (pc := 97) G dX5_capacity_97 rfl 1 rfl ?_
            first
              | exact absurd h_24 h_88
              | exact wm_lret (pc := 98) G R9 dX5_capacity_98 ⟨hf, by unfold capZ; first | rw [if_pos (by omega)] | (rw [if_neg (by omega), hr, show c = mny (M 0) by omega]), e8, e6, e7⟩
          · refine wp_ldc2 (z := -1) (pc := 91) G dX5_capacity_91 q2055 (by decide +kernel) ?_
            refine wp_goto (tgt := 98) (pc := 94) G dX5_capacity_94 (by decide) ?_
            first
              | exact absurd h_24 h_88
              | exact wm_lret (pc := 98) G R9 dX5_capacity_98 ⟨hf, by unfold capZ; first | rw [if_pos (by omega)] | (rw [if_neg (by omega), hr, show c = mny (M 0) by omega]), e8, e6, e7⟩
        · refine wp_lload_n (pc := 27) G dX5_capacity_27 rfl 1 rfl ?_
          refine wp_aload_n (pc := 28) G dX5_capacity_28 rfl 2 rfl ?_
          refine wm_get_0 (pc := 29) G dX5_capacity_29 fX5_7_4 ?_
          refine wp_sipush (pc := 32) G dX5_capacity_32 (by decide) ?_
          refine wp_iload_n (pc := 35) G dX5_capacity_35 rfl 3 rfl ?_
          refine wp_iadd (pc := 36) G dX5_capacity_36 ?_
          refine wm_ald_0 (pc := 37) G dX5_capacity_37 (by omega) ?_
          show Wp g F _ 0 0 (37 + 1) _ (jV (M1 0 (152 + k)) :: _)
          rw [hz, hm]
          refine wp_iload (pc := 38) G dX5_capacity_38 0 rfl ?_
          refine ws_calli2 (pc := 40) G dX5_capacity_40 kX5_91 (ct_has hg hm2 (by omega)) (by decide) (by decide) (Nat.le_of_ble_eq_true rfl) (fun z_40 h_40 => ?_)
          refine wp_if_eq (tgt := 74) (pc := 43) G dX5_capacity_43 h_40.r (by decide) (fun h_43 => ?_) (fun h_43 => ?_)
          · have h_43 := h_40.f h_43
            refine wp_lconst0 (pc := 74) G dX5_capacity_74 ?_
            refine wp_ladd (pc := 75) G dX5_capacity_75 ?_
            refine wp_lstore_n (L' := [(2, _), (4, _), (0, _), (1, _)]) (pc := 76) G dX5_capacity_76 rfl (by decide) rfl ?_
            refine wp_iinc (L' := [(4, _), (2, _), (0, _), (1, _)]) (pc := 77) G dX5_capacity_77 1 rfl (by decide) rfl ?_
            refine wp_goto (tgt := 10) (pc := 80) G dX5_capacity_80 (by decide) ?_
            first
              | exact ih (c + 1) _ (by omega) (by omega) (by rw [capS_s hc.1, if_pos ⟨h_43, by omega⟩]; omega)
              | exact ih (c + 1) _ (by omega) (by omega) (by rw [capS_s hc.1, if_neg (fun h => by first | exact h_43 h.1 | omega)]; omega)
          · have h_43 := h_40.t h_43
            refine wp_aload_n (pc := 46) G dX5_capacity_46 rfl 2 rfl ?_
            refine wp_iload (pc := 47) G dX5_capacity_47 0 rfl ?_
            refine wm_calli1 (pc := 49) G dX5_capacity_49 kX5_87 (ct_height hg (by omega)) (by decide) (by decide) (Nat.le_of_ble_eq_true rfl) (fun z_49 M_49 h_49 => ?_)
            obtain ⟨rfl, h_49⟩ := h_49
            rw [hz] at h_49
            subst h_49
            have hh := hL.hg (c := c) (by omega)
            refine wp_aload_n (pc := 52) G dX5_capacity_52 rfl 2 rfl ?_
            refine wm_get_8 (pc := 53) G dX5_capacity_53 fX5_114_4 ?_
            refine wp_icmp_ge (tgt := 74) (pc := 56) G dX5_capacity_56 (by omega) (by omega) (by decide) (fun h_56 => ?_) (fun h_56 => ?_)
            · refine wp_lconst0 (pc := 74) G dX5_capacity_74 ?_
              refine wp_ladd (pc := 75) G dX5_capacity_75 ?_
              refine wp_lstore_n (L' := [(2, _), (4, _), (0, _), (1, _)]) (pc := 76) G dX5_capacity_76 rfl (by decide) rfl ?_
              refine wp_iinc (L' := [(4, _), (2, _), (0, _), (1, _)]) (pc := 77) G dX5_capacity_77 1 rfl (by decide) rfl ?_
              refine wp_goto (tgt := 10) (pc := 80) G dX5_capacity_80 (by decide) ?_
              first
                | exact ih (c + 1) _ (by omega) (by omega) (by rw [capS_s hc.1, if_pos ⟨h_43, by omega⟩]; omega)
                | exact ih (c + 1) _ (by omega) (by omega) (by rw [capS_s hc.1, if_neg (fun h => by first | exact h_43 h.1 | omega)]; omega)
            · refine wp_aload_n (pc := 59) G dX5_capacity_59 rfl 2 rfl ?_
              refine wm_get_8 (pc := 60) G dX5_capacity_60 fX5_114_4 ?_
              refine wp_aload_n (pc := 63) G dX5_capacity_63 rfl 2 rfl ?_
              refine wp_iload (pc := 64) G dX5_capacity_64 0 rfl ?_
              refine wm_calli1 (pc := 66) G dX5_capacity_66 kX5_87 (ct_height hg (by omega)) (by decide) (by decide) (Nat.le_of_ble_eq_true rfl) (fun z_66 M_66 h_66 => ?_)
              obtain ⟨rfl, h_66⟩ := h_66
              rw [hz] at h_66
              subst h_66
              refine wp_isub (pc := 69) G dX5_capacity_69 ?_
              refine wp_i2l (pc := 70) G dX5_capacity_70 (by omega) ?_
              refine wp_goto (tgt := 75) (pc := 71) G dX5_capacity_71 (by decide) ?_
              refine wp_ladd (pc := 75) G dX5_capacity_75 ?_
              refine wp_lstore_n (L' := [(2, _), (4, _), (0, _), (1, _)]) (pc := 76) G dX5_capacity_76 rfl (by decide) rfl ?_
              refine wp_iinc (L' := [(4, _), (2, _), (0, _), (1, _)]) (pc := 77) G dX5_capacity_77 1 rfl (by decide) rfl ?_
              refine wp_goto (tgt := 10) (pc := 80) G dX5_capacity_80 (by decide) ?_
              first
                | exact ih (c + 1) _ (by omega) (by omega) (by rw [capS_s hc.1, if_pos ⟨h_43, by omega⟩]; omega)
                | exact ih (c + 1) _ (by omega) (by omega) (by rw [capS_s hc.1, if_neg (fun h => by first | exact h_43 h.1 | omega)]; omega)
  refine wp_lconst0 (pc := 5) G dX5_capacity_5 ?_
  refine wp_lstore_n (L' := [(2, _), (0, _), (1, _)]) (pc := 6) G dX5_capacity_6 rfl (by decide) rfl ?_
  refine wp_iconst (pc := 7) G dX5_capacity_7 ?_
  refine wp_istore (L' := [(4, _), (2, _), (0, _), (1, _)]) (pc := 8) G dX5_capacity_8 (by decide) rfl ?_
  exact loop 37 0 0 (by omega) (by omega) rfl
set_option maxHeartbeats 4000000 in
theorem ct_isFull {g : GV} (hg : GOk g) {ad : Nat → Nat} {M : Nat → Int → Int} (hL : okL (M 0)) (hK : okK (M 0)) {k m : Int} (hk : 0 ≤ k ∧ k < 72) (hm : M 0 (152 + k) = m) : CMi g ad yX5_isFull cX5_isFull 2 6 .boolean [iV k] M (fun z M' => (fr [6, 7, 8] M M' ∧ M' 8 0 = (pass (M 0) m).1 ∧ M' 6 0 = (pass (M 0) m).2.1 ∧ M' 7 0 = (pass (M 0) m).2.2) ∧ isB z (M 0 (224 + k) = capZ (M 0) m)) := by
  refine wm_ofi hg (by decide +kernel) (Nat.le_of_ble_eq_true rfl) (fun F G R9 => ?_)
  have G : FxOk g F cX5_isFull RX5 2 6 := G
  refine wp_loc (L' := [(0, _), (1, _)]) rfl ?_
  have hc := capZ_r hL m
  have hv := (hK.1 k hk).2.1
  refine wp_aload_n (pc := 0) G dX5_isFull_0 rfl 0 rfl ?_
  refine wm_get_0 (pc := 1) G dX5_isFull_1 fX5_7_4 ?_
  refine wp_sipush (pc := 4) G dX5_isFull_4 (by decide) ?_
  refine wp_iload_n (pc := 7) G dX5_isFull_7 rfl 1 rfl ?_
  refine wp_iadd (pc := 8) G dX5_isFull_8 ?_
  refine wm_ald_0 (pc := 9) G dX5_isFull_9 (by omega) ?_
  refine wp_aload_n (pc := 10) G dX5_isFull_10 rfl 0 rfl ?_
  refine wp_iload_n (pc := 11) G dX5_isFull_11 rfl 1 rfl ?_
  refine wm_calll1 (pc := 12) G dX5_isFull_12 kX5_127 (ct_capacity hg hL hK hk hm) (by decide) (by decide) (Nat.le_of_ble_eq_true rfl) (fun z_12 M_12 h_12 => ?_)
  obtain ⟨hf, rfl, e8, e6, e7⟩ := h_12
  refine wp_lcmp_ne (tgt := 23) (pc := 15) G dX5_isFull_15 dX5_isFull_16 (by omega) (by omega) (by decide) (fun h_15 => ?_) (fun h_15 => ?_)
  · refine wp_iconst (pc := 23) G dX5_isFull_23 ?_
    first | exact wm_zret (pc := 24) G R9 dX5_isFull_24 (by decide) ⟨⟨hf, e8, e6, e7⟩, isB.i1 h_15⟩ | exact wm_zret (pc := 24) G R9 dX5_isFull_24 (by decide) ⟨⟨hf, e8, e6, e7⟩, isB.i0 h_15⟩
  · refine wp_iconst (pc := 19) G dX5_isFull_19 ?_
    refine wp_goto (tgt := 24) (pc := 20) G dX5_isFull_20 (by decide) ?_
    first | exact wm_zret (pc := 24) G R9 dX5_isFull_24 (by decide) ⟨⟨hf, e8, e6, e7⟩, isB.i1 h_15⟩ | exact wm_zret (pc := 24) G R9 dX5_isFull_24 (by decide) ⟨⟨hf, e8, e6, e7⟩, isB.i0 h_15⟩
set_option maxHeartbeats 4000000 in
theorem ct_isJoined {g : GV} (hg : GOk g) {ad : Nat → Nat} {M : Nat → Int → Int} (hK : okK (M 0)) {k : Int} (hk : 0 ≤ k ∧ k < 72) : CMi g ad yX5_isJoined cX5_isJoined 2 0 .boolean [iV k] M (fun z M' => M = M' ∧ isB z (M 0 (296 + k) ≠ M 0 (368 + k))) := by
  refine wm_ofi hg (by decide +kernel) (Nat.le_of_ble_eq_true rfl) (fun F G R9 => ?_)
  have G : FxOk g F cX5_isJoined RX5 2 0 := G
  refine wp_loc (L' := [(0, _), (1, _)]) rfl ?_
  have hv := (hK.1 k hk).2.2
  refine wp_aload_n (pc := 0) G dX5_isJoined_0 rfl 0 rfl ?_
  refine wm_get_0 (pc := 1) G dX5_isJoined_1 fX5_7_4 ?_
  refine wp_sipush (pc := 4) G dX5_isJoined_4 (by decide) ?_
  refine wp_iload_n (pc := 7) G dX5_isJoined_7 rfl 1 rfl ?_
  refine wp_iadd (pc := 8) G dX5_isJoined_8 ?_
  refine wm_ald_0 (pc := 9) G dX5_isJoined_9 (by omega) ?_
  refine wp_aload_n (pc := 10) G dX5_isJoined_10 rfl 0 rfl ?_
  refine wm_get_0 (pc := 11) G dX5_isJoined_11 fX5_7_4 ?_
  refine wp_sipush (pc := 14) G dX5_isJoined_14 (by decide) ?_
  refine wp_iload_n (pc := 17) G dX5_isJoined_17 rfl 1 rfl ?_
  refine wp_iadd (pc := 18) G dX5_isJoined_18 ?_
  refine wm_ald_0 (pc := 19) G dX5_isJoined_19 (by omega) ?_
  refine wp_lcmp_eq (tgt := 28) (pc := 20) G dX5_isJoined_20 dX5_isJoined_21 (by omega) (by omega) (by decide) (fun h_20 => ?_) (fun h_20 => ?_)
  · refine wp_iconst (pc := 28) G dX5_isJoined_28 ?_
    first | exact wm_zret (pc := 29) G R9 dX5_isJoined_29 (by decide) ⟨rfl, isB.i1 h_20⟩ | exact wm_zret (pc := 29) G R9 dX5_isJoined_29 (by decide) ⟨rfl, isB.i0 (fun h => h h_20)⟩
  · refine wp_iconst (pc := 24) G dX5_isJoined_24 ?_
    refine wp_goto (tgt := 29) (pc := 25) G dX5_isJoined_25 (by decide) ?_
    first | exact wm_zret (pc := 29) G R9 dX5_isJoined_29 (by decide) ⟨rfl, isB.i1 h_20⟩ | exact wm_zret (pc := 29) G R9 dX5_isJoined_29 (by decide) ⟨rfl, isB.i0 (fun h => h h_20)⟩
/-- what a lake's volume can't fall below unparted -/
def leastZ (az : Int → Int) (k : Int) : Int := if az (296 + k) ≠ az (368 + k) then capZ az (az (152 + az (296 + k))) + capZ az (az (152 + az (368 + k))) else 0
set_option maxHeartbeats 4000000 in
theorem ct_leastVolume {g : GV} (hg : GOk g) {ad : Nat → Nat} {M : Nat → Int → Int} (hL : okL (M 0)) (hK : okK (M 0)) {k : Int} (hk : 0 ≤ k ∧ k < 72) : CMl g ad yX5_leastVolume cX5_leastVolume 2 6 [iV k] M (fun z M' => fr [6, 7, 8] M M' ∧ z = leastZ (M 0) k) := by
  refine wm_ofl hg (by decide +kernel) (Nat.le_of_ble_eq_true rfl) (fun F G R9 => ?_)
  have G : FxOk g F cX5_leastVolume RX5 2 6 := G
  refine wp_loc (L' := [(0, _), (1, _)]) rfl ?_
  have hv := (hK.1 k hk).2.2
  refine wp_aload_n (pc := 0) G dX5_leastVolume_0 rfl 0 rfl ?_
  refine wp_iload_n (pc := 1) G dX5_leastVolume_1 rfl 1 rfl ?_
  refine wm_calli1 (pc := 2) G dX5_leastVolume_2 kX5_130 (ct_isJoined hg hK hk) (by decide) (by decide) (Nat.le_of_ble_eq_true rfl) (fun z_2 M_2 h_2 => ?_)
  obtain ⟨rfl, h_2⟩ := h_2
  refine wp_if_eq (tgt := 42) (pc := 5) G dX5_leastVolume_5 h_2.r (by decide) (fun h_5 => ?_) (fun h_5 => ?_)
  · have h_5 := h_2.f h_5
    refine wp_lconst0 (pc := 42) G dX5_leastVolume_42 ?_
    first
      | exact wm_lret (pc := 43) G R9 dX5_leastVolume_43 ⟨hf.tr hf2, by unfold leastZ; rw [if_pos h_5]⟩
      | exact wm_lret (pc := 43) G R9 dX5_leastVolume_43 ⟨fr.rf, by unfold leastZ; rw [if_neg h_5]⟩
  · have h_5 := h_2.t h_5
    refine wp_aload_n (pc := 8) G dX5_leastVolume_8 rfl 0 rfl ?_
    refine wp_aload_n (pc := 9) G dX5_leastVolume_9 rfl 0 rfl ?_
    refine wm_get_0 (pc := 10) G dX5_leastVolume_10 fX5_7_4 ?_
    refine wp_sipush (pc := 13) G dX5_leastVolume_13 (by decide) ?_
    refine wp_iload_n (pc := 16) G dX5_leastVolume_16 rfl 1 rfl ?_
    refine wp_iadd (pc := 17) G dX5_leastVolume_17 ?_
    refine wm_ald_0 (pc := 18) G dX5_leastVolume_18 (by omega) ?_
    refine wp_l2i (pc := 19) G dX5_leastVolume_19 ?_
    refine wm_calll1 (pc := 20) G dX5_leastVolume_20 kX5_127 (ct_capacity hg hL hK hv.1 rfl) (by decide) (by decide) (Nat.le_of_ble_eq_true rfl) (fun z_20 M_20 h_20 => ?_)
    obtain ⟨hf, rfl, -, -, -⟩ := h_20
    have hz := hf 0 (by decide)
    refine wp_aload_n (pc := 23) G dX5_leastVolume_23 rfl 0 rfl ?_
    refine wp_aload_n (pc := 24) G dX5_leastVolume_24 rfl 0 rfl ?_
    refine wm_get_0 (pc := 25) G dX5_leastVolume_25 fX5_7_4 ?_
    refine wp_sipush (pc := 28) G dX5_leastVolume_28 (by decide) ?_
    refine wp_iload_n (pc := 31) G dX5_leastVolume_31 rfl 1 rfl ?_
    refine wp_iadd (pc := 32) G dX5_leastVolume_32 ?_
    refine wm_ald_0 (pc := 33) G dX5_leastVolume_33 (by omega) ?_
    refine wp_l2i (pc := 34) G dX5_leastVolume_34 ?_
    refine wm_calll1 (pc := 35) G dX5_leastVolume_35 kX5_127 (ct_capacity hg (by rw [hz]; exact hL) (by rw [hz]; exact hK) (by rw [hz]; exact hv.2.1) rfl) (by decide) (by decide) (Nat.le_of_ble_eq_true rfl) (fun z_35 M_35 h_35 => ?_)
    obtain ⟨hf2, rfl, -, -, -⟩ := h_35
    rw [hz]
    refine wp_ladd (pc := 38) G dX5_leastVolume_38 ?_
    refine wp_goto (tgt := 43) (pc := 39) G dX5_leastVolume_39 (by decide) ?_
    first
      | exact wm_lret (pc := 43) G R9 dX5_leastVolume_43 ⟨hf.tr hf2, by unfold leastZ; rw [if_pos h_5]⟩
      | exact wm_lret (pc := 43) G R9 dX5_leastVolume_43 ⟨fr.rf, by unfold leastZ; rw [if_neg h_5]⟩
set_option maxHeartbeats 4000000 in
theorem ct_water {g : GV} (hg : GOk g) {ad : Nat → Nat} {M : Nat → Int → Int} (hK : okK (M 0)) : CMl g ad yX5_water cX5_water 4 0 [] M (fun z M' => M = M' ∧ z = waterZ (M 0)) := by
  refine wm_ofl hg (by decide +kernel) (Nat.le_of_ble_eq_true rfl) (fun F G R9 => ?_)
  have G : FxOk g F cX5_water RX5 4 0 := G
  refine wp_loc (L' := [(0, _)]) rfl ?_
  have loop : ∀ (n : Nat) (k r : Int), (0 ≤ k ∧ k ≤ 72) → (73 ≤ k + n) → (r = waS (M 0) k.toNat) → Wp g F [MB g ad M] 0 0 4 [(3, iV k), (1, jV r), (0, .ref (ad 25))] [] := by
    intro n
    induction n with
    | zero =>
      intro k r hk hn hr
      exfalso
      omega
    | succ n ih =>
      intro k r hk hn hr
      refine wp_iload_n (pc := 4) G dX5_water_4 rfl 0 rfl ?_
      refine wp_bipush (pc := 5) G dX5_water_5 (by decide) ?_
      refine wp_icmp_ge (tgt := 48) (pc := 7) G dX5_water_7 (by omega) (by omega) (by decide) (fun h_7 => ?_) (fun h_7 => ?_)
      · refine wp_lload_n (pc := 48) G dX5_water_48 rfl 1 rfl ?_
        exact wm_lret (pc := 49) G R9 dX5_water_49 ⟨rfl, by rw [hr, show k = 72 by omega]; rfl⟩
      · refine wp_lload_n (pc := 10) G dX5_water_10 rfl 1 rfl ?_
        refine wp_aload_n (pc := 11) G dX5_water_11 rfl 2 rfl ?_
        refine wm_get_0 (pc := 12) G dX5_water_12 fX5_7_4 ?_
        refine wp_sipush (pc := 15) G dX5_water_15 (by decide) ?_
        refine wp_iload_n (pc := 18) G dX5_water_18 rfl 0 rfl ?_
        refine wp_iadd (pc := 19) G dX5_water_19 ?_
        refine wm_ald_0 (pc := 20) G dX5_water_20 (by omega) ?_
        refine wp_lconst1 (pc := 21) G dX5_water_21 ?_
        have h40 := (hK.1 k (by omega)).2.2.2.2
        refine wp_lcmp_ne (tgt := 39) (pc := 22) G dX5_water_22 dX5_water_23 (by omega) (by omega) (by decide) (fun h_22 => ?_) (fun h_22 => ?_)
        · refine wp_lconst0 (pc := 39) G dX5_water_39 ?_
          refine wp_ladd (pc := 40) G dX5_water_40 ?_
          refine wp_lstore_n (L' := [(1, _), (3, _), (0, _)]) (pc := 41) G dX5_water_41 rfl (by decide) rfl ?_
          refine wp_iinc (L' := [(3, _), (1, _), (0, _)]) (pc := 42) G dX5_water_42 1 rfl (by decide) rfl ?_
          refine wp_goto (tgt := 4) (pc := 45) G dX5_water_45 (by decide) ?_
          first
            | exact ih (k + 1) _ (by omega) (by omega) (by rw [waS_s hk.1, if_pos h_22, hr])
            | exact ih (k + 1) _ (by omega) (by omega) (by rw [waS_s hk.1, if_neg h_22, hr])
        · refine wp_aload_n (pc := 26) G dX5_water_26 rfl 2 rfl ?_
          refine wm_get_0 (pc := 27) G dX5_water_27 fX5_7_4 ?_
          refine wp_sipush (pc := 30) G dX5_water_30 (by decide) ?_
          refine wp_iload_n (pc := 33) G dX5_water_33 rfl 0 rfl ?_
          refine wp_iadd (pc := 34) G dX5_water_34 ?_
          refine wm_ald_0 (pc := 35) G dX5_water_35 (by omega) ?_
          refine wp_goto (tgt := 40) (pc := 36) G dX5_water_36 (by decide) ?_
          refine wp_ladd (pc := 40) G dX5_water_40 ?_
          refine wp_lstore_n (L' := [(1, _), (3, _), (0, _)]) (pc := 41) G dX5_water_41 rfl (by decide) rfl ?_
          refine wp_iinc (L' := [(3, _), (1, _), (0, _)]) (pc := 42) G dX5_water_42 1 rfl (by decide) rfl ?_
          refine wp_goto (tgt := 4) (pc := 45) G dX5_water_45 (by decide) ?_
          first
            | exact ih (k + 1) _ (by omega) (by omega) (by rw [waS_s hk.1, if_pos h_22, hr])
            | exact ih (k + 1) _ (by omega) (by omega) (by rw [waS_s hk.1, if_neg h_22, hr])
  refine wp_lconst0 (pc := 0) G dX5_water_0 ?_
  refine wp_lstore_n (L' := [(1, _), (0, _)]) (pc := 1) G dX5_water_1 rfl (by decide) rfl ?_
  refine wp_iconst (pc := 2) G dX5_water_2 ?_
  refine wp_istore_n (L' := [(3, _), (1, _), (0, _)]) (pc := 3) G dX5_water_3 rfl (by decide) rfl ?_
  exact loop 73 0 0 (by omega) (by omega) rfl
set_option maxHeartbeats 4000000 in
theorem ct_sums {g : GV} (hg : GOk g) {a b : Int} : CSl g yX5_sums cX5_sums 4 0 [jV a, jV b] (fun z => z = 31 * a + b) := by
  refine ws_ofl hg (by decide +kernel) (Nat.le_of_ble_eq_true rfl) (fun F G R9 => ?_)
  have G : FxOk g F cX5_sums RX5 4 0 := G
  refine wp_loc (L' := [(0, _), (2, _)]) rfl ?_
  refine wp_ldc2 (z := 31) (pc := 0) G dX5_sums_0 q2507 (by decide +kernel) ?_
  refine wp_lload_n (pc := 3) G dX5_sums_3 rfl 0 rfl ?_
  refine wp_lmul (pc := 4) G dX5_sums_4 ?_
  refine wp_lload_n (pc := 5) G dX5_sums_5 rfl 1 rfl ?_
  refine wp_ladd (pc := 6) G dX5_sums_6 ?_
  exact ws_lret (pc := 7) G R9 dX5_sums_7 rfl
theorem gcd_step {x y : Int} (h0 : 0 ≤ x) (h1 : 0 ≤ y) : Int.gcd x y = Int.gcd y (x % y) := by
  obtain ⟨a, rfl⟩ := Int.eq_ofNat_of_zero_le h0
  obtain ⟨b, rfl⟩ := Int.eq_ofNat_of_zero_le h1
  rw [← Int.natCast_emod]
  show Nat.gcd a b = Nat.gcd b (a % b)
  rw [Nat.gcd_comm a b, Nat.gcd_rec b a, Nat.gcd_comm]
theorem gcd_0 {x : Int} (h0 : 0 ≤ x) : (Int.gcd x 0 : Int) = x := by
  rw [Int.gcd_zero_right]
  omega
set_option maxHeartbeats 4000000 in
theorem ct_divisor {g : GV} (hg : GOk g) {a b : Int} (ha : 0 ≤ a ∧ a ≤ 9000000000000000000) (hb : 0 ≤ b ∧ b < 9000000000000000000) : CSl g yX5_divisor cX5_divisor 10 0 [jV a, jV b] (fun z => z = Int.gcd a b) := by
  refine ws_ofl hg (by decide +kernel) (Nat.le_of_ble_eq_true rfl) (fun F G R9 => ?_)
  have G : FxOk g F cX5_divisor RX5 10 0 := G
  refine wp_loc (L' := [(0, _), (2, _)]) rfl ?_
  have loop : ∀ (n : Nat) (x y : Int), (0 ≤ x ∧ x ≤ 9000000000000000000) → (0 ≤ y ∧ y < 9000000000000000000) → (y + 1 ≤ (n : Int)) → (Int.gcd a b = Int.gcd x y) → Wp g F [] 0 0 6 [(6, jV y), (4, jV x), (0, jV a), (2, jV b)] [] := by
    intro n
    induction n with
    | zero =>
      intro x y hx hy hn hg1
      exfalso
      omega
    | succ n ih =>
      intro x y hx hy hn hg1
      refine wp_lload (pc := 6) G dX5_divisor_6 0 rfl ?_
      refine wp_lconst0 (pc := 8) G dX5_divisor_8 ?_
      refine wp_lcmp_eq (tgt := 31) (pc := 9) G dX5_divisor_9 dX5_divisor_10 (by omega) (by omega) (by decide) (fun h_9 => ?_) (fun h_9 => ?_)
      · refine wp_lload (pc := 31) G dX5_divisor_31 1 rfl ?_
        exact ws_lret (pc := 33) G R9 dX5_divisor_33 (by rw [hg1, h_9, gcd_0 hx.1])
      · refine wp_lload (pc := 13) G dX5_divisor_13 1 rfl ?_
        refine wp_lload (pc := 15) G dX5_divisor_15 0 rfl ?_
        refine wp_lrem (pc := 17) G dX5_divisor_17 (by omega) (by omega) ?_
        refine wp_lstore (L' := [(8, _), (6, _), (4, _), (0, _), (2, _)]) (pc := 18) G dX5_divisor_18 (by decide) rfl ?_
        refine wp_lload (pc := 20) G dX5_divisor_20 1 rfl ?_
        refine wp_lstore (L' := [(4, _), (8, _), (6, _), (0, _), (2, _)]) (pc := 22) G dX5_divisor_22 (by decide) rfl ?_
        refine wp_lload (pc := 24) G dX5_divisor_24 1 rfl ?_
        refine wp_lstore (L' := [(6, _), (4, _), (8, _), (0, _), (2, _)]) (pc := 26) G dX5_divisor_26 (by decide) rfl ?_
        refine wp_goto (tgt := 6) (pc := 28) G dX5_divisor_28 (by decide) ?_
        refine wp_sub (L' := [(6, _), (4, _), (0, _), (2, _)]) [0, 1, 3, 4] rfl ?_
        have hm := Int.emod_nonneg x h_9
        have hl := Int.emod_lt_of_pos x (b := y) (by omega)
        exact ih y (x % y) (by omega) (by omega) (by omega) (by rw [hg1, gcd_step hx.1 hy.1])
  refine wp_lload_n (pc := 0) G dX5_divisor_0 rfl 0 rfl ?_
  refine wp_lstore (L' := [(4, _), (0, _), (2, _)]) (pc := 1) G dX5_divisor_1 (by decide) rfl ?_
  refine wp_lload_n (pc := 3) G dX5_divisor_3 rfl 2 rfl ?_
  refine wp_lstore (L' := [(6, _), (4, _), (0, _), (2, _)]) (pc := 4) G dX5_divisor_4 (by decide) rfl ?_
  exact loop (b.toNat + 1) a b ha hb (by omega) rfl
