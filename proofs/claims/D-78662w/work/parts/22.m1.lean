/-! THE MODEL, leaves -/
set_option maxRecDepth 100000
set_option maxHeartbeats 4000000 in
theorem ct_in {g : GV} (hg : GOk g) {v lo hi : Int} (hv : -9223372036854775808 ≤ v ∧ v ≤ 9223372036854775807) (hl : -9223372036854775808 ≤ lo ∧ lo ≤ 9223372036854775807) (hh : -9223372036854775808 ≤ hi ∧ hi ≤ 9223372036854775807) : CSi g yX5_in cX5_in 6 0 .boolean [jV v, jV lo, jV hi] (fun z => isB z (lo ≤ v ∧ v ≤ hi)) := by
  refine ws_ofi hg (by decide +kernel) (Nat.le_of_ble_eq_true rfl) (fun F G R9 => ?_)
  have G : FxOk g F cX5_in RX5 6 0 := G
  refine wp_loc (L' := [(0, _), (2, _), (4, _)]) rfl ?_
  refine wp_lload_n (pc := 0) G dX5_in_0 rfl 0 rfl ?_
  refine wp_lload_n (pc := 1) G dX5_in_1 rfl 1 rfl ?_
  refine wp_lcmp_lt (tgt := 17) (pc := 2) G dX5_in_2 dX5_in_3 hv hl (by decide) (fun h_2 => ?_) (fun h_2 => ?_)
  · refine wp_iconst (pc := 17) G dX5_in_17 ?_
    first | exact ws_zret (pc := 18) G R9 dX5_in_18 (by decide) (isB.i1 (by omega)) | exact ws_zret (pc := 18) G R9 dX5_in_18 (by decide) (isB.i0 (by omega))
  · refine wp_lload_n (pc := 6) G dX5_in_6 rfl 0 rfl ?_
    refine wp_lload (pc := 7) G dX5_in_7 2 rfl ?_
    refine wp_lcmp_gt (tgt := 17) (pc := 9) G dX5_in_9 dX5_in_10 hv hh (by decide) (fun h_9 => ?_) (fun h_9 => ?_)
    · refine wp_iconst (pc := 17) G dX5_in_17 ?_
      first | exact ws_zret (pc := 18) G R9 dX5_in_18 (by decide) (isB.i1 (by omega)) | exact ws_zret (pc := 18) G R9 dX5_in_18 (by decide) (isB.i0 (by omega))
    · refine wp_iconst (pc := 13) G dX5_in_13 ?_
      refine wp_goto (tgt := 18) (pc := 14) G dX5_in_14 (by decide) ?_
      first | exact ws_zret (pc := 18) G R9 dX5_in_18 (by decide) (isB.i1 (by omega)) | exact ws_zret (pc := 18) G R9 dX5_in_18 (by decide) (isB.i0 (by omega))
set_option maxHeartbeats 4000000 in
theorem ct_has {g : GV} (hg : GOk g) {m c : Int} (hm : 0 ≤ m ∧ m < 4611686018427387904) (hc : 0 ≤ c ∧ c < 64) : CSi g yX5_has cX5_has 3 0 .boolean [jV m, iV c] (fun z => isB z (inS m c)) := by
  refine ws_ofi hg (by decide +kernel) (Nat.le_of_ble_eq_true rfl) (fun F G R9 => ?_)
  have G : FxOk g F cX5_has RX5 3 0 := G
  refine wp_loc (L' := [(0, _), (2, _)]) rfl ?_
  refine wp_lload_n (pc := 0) G dX5_has_0 rfl 0 rfl ?_
  refine wp_iload_n (pc := 1) G dX5_has_1 rfl 1 rfl ?_
  refine wp_lshr (pc := 2) G dX5_has_2 hm hc ?_
  refine wp_lconst1 (pc := 3) G dX5_has_3 ?_
  refine wp_land (pc := 4) G dX5_has_4 (Int.ediv_nonneg hm.1 (by rw [two_p]; exact Int.natCast_nonneg _)) (by omega) ?_
  refine wp_lconst1 (pc := 5) G dX5_has_5 ?_
  have h4 : -9223372036854775808 ≤ andZ (m / 2 ^ c.toNat) 1 ∧ andZ (m / 2 ^ c.toNat) 1 ≤ 9223372036854775807 := by
    unfold andZ
    rw [show (1 : Int).toNat = 1 from rfl, Nat.and_one_is_mod]
    omega
  refine wp_lcmp_ne (tgt := 14) (pc := 6) G dX5_has_6 dX5_has_7 h4 (by omega) (by decide) (fun h_6 => ?_) (fun h_6 => ?_)
  · refine wp_iconst (pc := 14) G dX5_has_14 ?_
    first | exact ws_zret (pc := 15) G R9 dX5_has_15 (by decide) (isB.i1 ((inS_has hm.1).mpr h_6)) | exact ws_zret (pc := 15) G R9 dX5_has_15 (by decide) (isB.i0 (fun h => h_6 ((inS_has hm.1).mp h)))
  · refine wp_iconst (pc := 10) G dX5_has_10 ?_
    refine wp_goto (tgt := 15) (pc := 11) G dX5_has_11 (by decide) ?_
    first | exact ws_zret (pc := 15) G R9 dX5_has_15 (by decide) (isB.i1 ((inS_has hm.1).mpr h_6)) | exact ws_zret (pc := 15) G R9 dX5_has_15 (by decide) (isB.i0 (fun h => h_6 ((inS_has hm.1).mp h)))
/-- the lowest cell of a set -/
def isLow (m z : Int) : Prop := (0 ≤ z ∧ z < 36) ∧ inS m z ∧ ∀ j, 0 ≤ j ∧ j < z → ¬ inS m j
set_option maxHeartbeats 4000000 in
theorem ct_lowest {g : GV} (hg : GOk g) {m : Int} (hm : okS m) (h0 : m ≠ 0) : CSi g yX5_lowest cX5_lowest 3 1 .int [jV m] (fun z => isLow m z) := by
  refine ws_ofi hg (by decide +kernel) (Nat.le_of_ble_eq_true rfl) (fun F G R9 => ?_)
  have G : FxOk g F cX5_lowest RX5 3 1 := G
  refine wp_loc (L' := [(0, _)]) rfl ?_
  obtain ⟨e, he, hme⟩ := okS_ne hm h0
  have hm2 : 0 ≤ m ∧ m < 4611686018427387904 := by unfold okS at hm; omega
  have loop : ∀ (n : Nat) (c : Int), 0 ≤ c ∧ c ≤ 36 → 36 ≤ c + n → (∀ j, 0 ≤ j ∧ j < c → ¬ inS m j) → Wp g F [] 0 0 2 [(2, iV c), (0, jV m)] [] := by
    intro n
    induction n with
    | zero =>
      intro c hc hn hj
      exact absurd hme (hj e (by omega))
    | succ n ih =>
      intro c hc hn hj
      have hce : c ≤ e := by
        rcases Int.lt_or_le e c with h | h
        · exact absurd hme (hj e (by omega))
        · exact h
      refine wp_lload_n (pc := 2) G dX5_lowest_2 rfl 1 rfl ?_
      refine wp_iload_n (pc := 3) G dX5_lowest_3 rfl 0 rfl ?_
      refine ws_calli2 (pc := 4) G dX5_lowest_4 kX5_91 (ct_has hg hm2 (by omega)) (by decide) (by decide) (Nat.le_of_ble_eq_true rfl) (fun z_4 h_4 => ?_)
      refine wp_if_ne (tgt := 16) (pc := 7) G dX5_lowest_7 h_4.r (by decide) (fun h_7 => ?_) (fun h_7 => ?_)
      · have h_7 := h_4.t h_7
        refine wp_iload_n (pc := 16) G dX5_lowest_16 rfl 0 rfl ?_
        exact ws_iret (pc := 17) G R9 dX5_lowest_17 ⟨by omega, h_7, hj⟩
      · have h_7 := h_4.f h_7
        refine wp_iinc (L' := [(2, _), (0, _)]) (pc := 10) G dX5_lowest_10 0 rfl (by decide) rfl ?_
        refine wp_goto (tgt := 2) (pc := 13) G dX5_lowest_13 (by decide) ?_
        exact ih (c + 1) (by omega) (by omega) (fun j h => by
          rcases Int.lt_or_le j c with h9 | h9
          · exact hj j (by omega)
          · rw [show j = c by omega]; exact h_7)
  refine wp_iconst (pc := 0) G dX5_lowest_0 ?_
  refine wp_istore_n (L' := [(2, _), (0, _)]) (pc := 1) G dX5_lowest_1 rfl (by decide) rfl ?_
  exact loop 36 0 (by omega) (by omega) (fun j h => by omega)
set_option maxHeartbeats 4000000 in
theorem ct_thrown {g : GV} (hg : GOk g) {ad : Nat → Nat} {M : Nat → Int → Int}  : CMi g ad yX5_thrown cX5_thrown 1 0 .int [] M (fun z M' => M = M' ∧ z = M 4 0) := by
  refine wm_ofi hg (by decide +kernel) (Nat.le_of_ble_eq_true rfl) (fun F G R9 => ?_)
  have G : FxOk g F cX5_thrown RX5 1 0 := G
  refine wp_loc (L' := [(0, _)]) rfl ?_
  refine wp_aload_n (pc := 0) G dX5_thrown_0 rfl 0 rfl ?_
  refine wm_get_4 (pc := 1) G dX5_thrown_1 fX5_54_4 ?_
  exact wm_iret (pc := 4) G R9 dX5_thrown_4 ⟨rfl, rfl⟩
set_option maxHeartbeats 4000000 in
theorem ct_many {g : GV} (hg : GOk g) {ad : Nat → Nat} {M : Nat → Int → Int}  : CMi g ad yX5_many cX5_many 1 0 .int [] M (fun z M' => M = M' ∧ z = mny (M 0)) := by
  refine wm_ofi hg (by decide +kernel) (Nat.le_of_ble_eq_true rfl) (fun F G R9 => ?_)
  have G : FxOk g F cX5_many RX5 1 0 := G
  refine wp_loc (L' := [(0, _)]) rfl ?_
  refine wp_aload_n (pc := 0) G dX5_many_0 rfl 0 rfl ?_
  refine wm_get_0 (pc := 1) G dX5_many_1 fX5_7_4 ?_
  refine wp_iconst (pc := 4) G dX5_many_4 ?_
  refine wm_ald_0 (pc := 5) G dX5_many_5 (by omega) ?_
  refine wp_aload_n (pc := 6) G dX5_many_6 rfl 0 rfl ?_
  refine wm_get_0 (pc := 7) G dX5_many_7 fX5_7_4 ?_
  refine wp_iconst (pc := 10) G dX5_many_10 ?_
  refine wm_ald_0 (pc := 11) G dX5_many_11 (by omega) ?_
  refine wp_lmul (pc := 12) G dX5_many_12 ?_
  refine wp_l2i (pc := 13) G dX5_many_13 ?_
  exact wm_iret (pc := 14) G R9 dX5_many_14 ⟨rfl, rfl⟩
set_option maxHeartbeats 4000000 in
theorem ct_height {g : GV} (hg : GOk g) {ad : Nat → Nat} {M : Nat → Int → Int} {c : Int} (hc : 0 ≤ c ∧ c < 505) : CMi g ad yX5_height cX5_height 2 0 .int [iV c] M (fun z M' => M = M' ∧ z = hgt (M 0) c) := by
  refine wm_ofi hg (by decide +kernel) (Nat.le_of_ble_eq_true rfl) (fun F G R9 => ?_)
  have G : FxOk g F cX5_height RX5 2 0 := G
  refine wp_loc (L' := [(0, _), (1, _)]) rfl ?_
  refine wp_aload_n (pc := 0) G dX5_height_0 rfl 0 rfl ?_
  refine wm_get_0 (pc := 1) G dX5_height_1 fX5_7_4 ?_
  refine wp_bipush (pc := 4) G dX5_height_4 (by decide) ?_
  refine wp_iload_n (pc := 6) G dX5_height_6 rfl 1 rfl ?_
  refine wp_iadd (pc := 7) G dX5_height_7 ?_
  refine wm_ald_0 (pc := 8) G dX5_height_8 (by omega) ?_
  refine wp_l2i (pc := 9) G dX5_height_9 ?_
  exact wm_iret (pc := 10) G R9 dX5_height_10 ⟨rfl, rfl⟩
set_option maxHeartbeats 4000000 in
theorem ct_isCell {g : GV} (hg : GOk g) {ad : Nat → Nat} {M : Nat → Int → Int} (hL : okL (M 0)) {c : Int} (hc : -2147483648 ≤ c ∧ c ≤ 2147483647) : CMi g ad yX5_isCell cX5_isCell 2 1 .boolean [iV c] M (fun z M' => M = M' ∧ isB z (isC (M 0) c)) := by
  have hm := hL.m
  refine wm_ofi hg (by decide +kernel) (Nat.le_of_ble_eq_true rfl) (fun F G R9 => ?_)
  have G : FxOk g F cX5_isCell RX5 2 1 := G
  refine wp_loc (L' := [(0, _), (1, _)]) rfl ?_
  refine wp_iload_n (pc := 0) G dX5_isCell_0 rfl 1 rfl ?_
  refine wp_i2l (pc := 1) G dX5_isCell_1 (by omega) ?_
  refine wp_lconst0 (pc := 2) G dX5_isCell_2 ?_
  refine wp_aload_n (pc := 3) G dX5_isCell_3 rfl 0 rfl ?_
  refine wm_calli0 (pc := 4) G dX5_isCell_4 kX5_61 (ct_many hg) (by decide) (by decide) (Nat.le_of_ble_eq_true rfl) (fun z_4 M_4 h_4 => ?_)
  obtain ⟨rfl, h_4⟩ := h_4
  subst h_4
  refine wp_i2l (pc := 7) G dX5_isCell_7 (by omega) ?_
  refine wp_lconst1 (pc := 8) G dX5_isCell_8 ?_
  refine wp_lsub (pc := 9) G dX5_isCell_9 ?_
  refine ws_calli3 (pc := 10) G dX5_isCell_10 kX5_65 (ct_in hg (by omega) (by omega) (by omega)) (by decide) (by decide) (Nat.le_of_ble_eq_true rfl) (fun z_10 h_10 => ?_)
  exact wm_zret (pc := 13) G R9 dX5_isCell_13 h_10.z ⟨rfl, h_10.iff (by unfold isC; omega)⟩
set_option maxHeartbeats 4000000 in
theorem ct_neighbor {g : GV} (hg : GOk g) {ad : Nat → Nat} {M : Nat → Int → Int} (hL : okL (M 0)) {c s : Int} (hc : isC (M 0) c) (hs : 0 ≤ s ∧ s < 4) : CMi g ad yX5_neighbor cX5_neighbor 4 1 .int [iV c, iV s] M (fun z M' => M = M' ∧ z = nbr (M 0) c s) := by
  have hm := hL.m
  have hw := hL.w
  have hc2 := hc.lt hL
  have hr : 0 ≤ c % M 0 0 ∧ c % M 0 0 < M 0 0 := ⟨Int.emod_nonneg _ (by omega), Int.emod_lt_of_pos _ (by omega)⟩
  refine wm_ofi hg (by decide +kernel) (Nat.le_of_ble_eq_true rfl) (fun F G R9 => ?_)
  have G : FxOk g F cX5_neighbor RX5 4 1 := G
  refine wp_loc (L' := [(0, _), (1, _), (2, _)]) rfl ?_
  refine wp_aload_n (pc := 0) G dX5_neighbor_0 rfl 0 rfl ?_
  refine wm_get_0 (pc := 1) G dX5_neighbor_1 fX5_7_4 ?_
  refine wp_iconst (pc := 4) G dX5_neighbor_4 ?_
  refine wm_ald_0 (pc := 5) G dX5_neighbor_5 (by omega) ?_
  refine wp_l2i (pc := 6) G dX5_neighbor_6 ?_
  refine wp_istore_n (L' := [(3, _), (0, _), (1, _), (2, _)]) (pc := 7) G dX5_neighbor_7 rfl (by decide) rfl ?_
  refine wp_iload_n (pc := 8) G dX5_neighbor_8 rfl 3 rfl ?_
  rcases (show s = 0 ∨ s = 1 ∨ s = 2 ∨ s = 3 by omega) with rfl | rfl | rfl | rfl
  · refine wp_tsIn (pc := 9) (off := 27) (tgt := 36) G dX5_neighbor_9 (by omega) (by omega) rfl (by decide) ?_
    refine wp_iload_n (pc := 36) G dX5_neighbor_36 rfl 2 rfl ?_
    refine wp_iload_n (pc := 37) G dX5_neighbor_37 rfl 0 rfl ?_
    refine wp_icmp_lt (tgt := 47) (pc := 38) G dX5_neighbor_38 (by omega) (by omega) (by decide) (fun h_38 => ?_) (fun h_38 => ?_)
    · refine wp_iconst (pc := 47) G dX5_neighbor_47 ?_
      exact wm_iret (pc := 48) G R9 dX5_neighbor_48 ⟨rfl, by first | rw [nbr_0, if_pos (by omega)] | rw [nbr_0, if_neg (by omega)]⟩
    · refine wp_iload_n (pc := 41) G dX5_neighbor_41 rfl 2 rfl ?_
      refine wp_iload_n (pc := 42) G dX5_neighbor_42 rfl 0 rfl ?_
      refine wp_isub (pc := 43) G dX5_neighbor_43 ?_
      refine wp_goto (tgt := 48) (pc := 44) G dX5_neighbor_44 (by decide) ?_
      exact wm_iret (pc := 48) G R9 dX5_neighbor_48 ⟨rfl, by first | rw [nbr_0, if_pos (by omega)] | rw [nbr_0, if_neg (by omega)]⟩
  · refine wp_tsIn (pc := 9) (off := 40) (tgt := 49) G dX5_neighbor_9 (by omega) (by omega) rfl (by decide) ?_
    refine wp_iload_n (pc := 49) G dX5_neighbor_49 rfl 2 rfl ?_
    refine wp_iload_n (pc := 50) G dX5_neighbor_50 rfl 0 rfl ?_
    refine wp_irem (pc := 51) G dX5_neighbor_51 (by omega) (by omega) ?_
    refine wp_if_le (tgt := 61) (pc := 52) G dX5_neighbor_52 (by omega) (by decide) (fun h_52 => ?_) (fun h_52 => ?_)
    · refine wp_iconst (pc := 61) G dX5_neighbor_61 ?_
      exact wm_iret (pc := 62) G R9 dX5_neighbor_62 ⟨rfl, by first | rw [nbr_1, if_pos (by omega)] | rw [nbr_1, if_neg (by omega)]⟩
    · refine wp_iload_n (pc := 55) G dX5_neighbor_55 rfl 2 rfl ?_
      refine wp_iconst (pc := 56) G dX5_neighbor_56 ?_
      refine wp_isub (pc := 57) G dX5_neighbor_57 ?_
      refine wp_goto (tgt := 62) (pc := 58) G dX5_neighbor_58 (by decide) ?_
      exact wm_iret (pc := 62) G R9 dX5_neighbor_62 ⟨rfl, by first | rw [nbr_1, if_pos (by omega)] | rw [nbr_1, if_neg (by omega)]⟩
  · refine wp_tsIn (pc := 9) (off := 54) (tgt := 63) G dX5_neighbor_9 (by omega) (by omega) rfl (by decide) ?_
    refine wp_iload_n (pc := 63) G dX5_neighbor_63 rfl 2 rfl ?_
    refine wp_iload_n (pc := 64) G dX5_neighbor_64 rfl 0 rfl ?_
    refine wp_irem (pc := 65) G dX5_neighbor_65 (by omega) (by omega) ?_
    refine wp_iload_n (pc := 66) G dX5_neighbor_66 rfl 0 rfl ?_
    refine wp_iconst (pc := 67) G dX5_neighbor_67 ?_
    refine wp_isub (pc := 68) G dX5_neighbor_68 ?_
    refine wp_icmp_ge (tgt := 78) (pc := 69) G dX5_neighbor_69 (by omega) (by omega) (by decide) (fun h_69 => ?_) (fun h_69 => ?_)
    · refine wp_iconst (pc := 78) G dX5_neighbor_78 ?_
      exact wm_iret (pc := 79) G R9 dX5_neighbor_79 ⟨rfl, by first | rw [nbr_2, if_pos (by omega)] | rw [nbr_2, if_neg (by omega)]⟩
    · refine wp_iload_n (pc := 72) G dX5_neighbor_72 rfl 2 rfl ?_
      refine wp_iconst (pc := 73) G dX5_neighbor_73 ?_
      refine wp_iadd (pc := 74) G dX5_neighbor_74 ?_
      refine wp_goto (tgt := 79) (pc := 75) G dX5_neighbor_75 (by decide) ?_
      exact wm_iret (pc := 79) G R9 dX5_neighbor_79 ⟨rfl, by first | rw [nbr_2, if_pos (by omega)] | rw [nbr_2, if_neg (by omega)]⟩
  · refine wp_tsOut (pc := 9) (tgt := 80) G dX5_neighbor_9 (by omega) (by omega) (by decide) ?_
    refine wp_iload_n (pc := 80) G dX5_neighbor_80 rfl 2 rfl ?_
    refine wp_iload_n (pc := 81) G dX5_neighbor_81 rfl 0 rfl ?_
    refine wp_iadd (pc := 82) G dX5_neighbor_82 ?_
    refine wp_aload_n (pc := 83) G dX5_neighbor_83 rfl 1 rfl ?_
    refine wm_calli0 (pc := 84) G dX5_neighbor_84 kX5_61 (ct_many hg) (by decide) (by decide) (Nat.le_of_ble_eq_true rfl) (fun z_84 M_84 h_84 => ?_)
    obtain ⟨rfl, h_84⟩ := h_84
    subst h_84
    refine wp_icmp_ge (tgt := 96) (pc := 87) G dX5_neighbor_87 (by omega) (by omega) (by decide) (fun h_87 => ?_) (fun h_87 => ?_)
    · refine wp_iconst (pc := 96) G dX5_neighbor_96 ?_
      exact wm_iret (pc := 97) G R9 dX5_neighbor_97 ⟨rfl, by first | rw [nbr_3, if_pos (by omega)] | rw [nbr_3, if_neg (by omega)]⟩
    · refine wp_iload_n (pc := 90) G dX5_neighbor_90 rfl 2 rfl ?_
      refine wp_iload_n (pc := 91) G dX5_neighbor_91 rfl 0 rfl ?_
      refine wp_iadd (pc := 92) G dX5_neighbor_92 ?_
      refine wp_goto (tgt := 97) (pc := 93) G dX5_neighbor_93 (by decide) ?_
      exact wm_iret (pc := 97) G R9 dX5_neighbor_97 ⟨rfl, by first | rw [nbr_3, if_pos (by omega)] | rw [nbr_3, if_neg (by omega)]⟩
