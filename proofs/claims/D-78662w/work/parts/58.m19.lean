/-! THE CALLS OF THE MODEL that ask -/
set_option maxRecDepth 100000
set_option maxHeartbeats 4000000 in
theorem ct_cell {g : GV} (hg : GOk g) {ad : Nat → Nat} {M : Nat → Int → Int} (hA : okA (M 0)) (hW : waterZ (M 0) ≤ 1000000) {c : Int} (hc : -2147483648 ≤ c ∧ c ≤ 2147483647) {w : Int} (hw : -2147483648 ≤ w ∧ w ≤ 2147483647) : CMi g ad yX5_cell cX5_cell 3 4 .int [iV c, iV w] M (fun z M' => (cod (isC (M 0) c) (0 ≤ w ∧ w ≤ 5) (True) (M' 4 0) ∧ fr SC M M') ∨ ((isC (M 0) c) ∧ (0 ≤ w ∧ w ≤ 5) ∧ (True) ∧ M' 4 0 = 0 ∧ fr SC M M' ∧ z = cellZ (M 0) c w)) := by
  refine wm_ofi hg (by decide +kernel) (Nat.le_of_ble_eq_true rfl) (fun F G R9 => ?_)
  have G : FxOk g F cX5_cell RX5 3 4 := G
  refine wp_loc (L' := [(0, _), (1, _), (2, _)]) rfl ?_
  refine wp_aload_n (pc := 0) G dX5_cell_0 rfl 0 rfl ?_
  refine wp_aload_n (pc := 1) G dX5_cell_1 rfl 0 rfl ?_
  refine wp_iload_n (pc := 2) G dX5_cell_2 rfl 1 rfl ?_
  refine wm_calli1 (pc := 3) G dX5_cell_3 kX5_73 (ct_isCell hg hA.L hc) (by decide) (by decide) (Nat.le_of_ble_eq_true rfl) (fun z_3 M_3 h_3 => ?_)
  obtain ⟨rfl, h_3⟩ := h_3
  refine wp_iload_n (pc := 6) G dX5_cell_6 rfl 2 rfl ?_
  refine wp_i2l (pc := 7) G dX5_cell_7 (by omega) ?_
  refine wp_lconst0 (pc := 8) G dX5_cell_8 ?_
  refine wp_ldc2 (z := 5) (pc := 9) G dX5_cell_9 q2272 (by decide +kernel) ?_
  refine ws_calli3 (pc := 12) G dX5_cell_12 kX5_65 (ct_in hg (by omega) (by omega) (by omega)) (by decide) (by decide) (Nat.le_of_ble_eq_true rfl) (fun z_12 h_12 => ?_)
  refine wp_iconst (pc := 15) G dX5_cell_15 ?_
  refine wm_calli3 (pc := 16) G dX5_cell_16 kX5_183 (ct_goes hg h_3.z h_12.z (by decide)) (by decide) (by decide) (Nat.le_of_ble_eq_true rfl) (fun z_16 M_16 h_16 => ?_)
  obtain ⟨hm16, hb16⟩ := h_16
  have gc := goes_c (P := isC (M 0) c) (Q := 0 ≤ w ∧ w ≤ 5) (R := True) h_3 h_12 (isB.i1 trivial)
  have f4 : fr SC M M_16 := by rw [hm16]; exact fr.rf.s1 (by decide)
  have g4 : ∀ t, M_16 = ms1 M 4 t → M_16 4 0 = t := fun t q => by rw [q]; rfl
  have g4 := g4 _ hm16
  refine wp_if_eq (tgt := 31) (pc := 19) G dX5_cell_19 hb16.r (by decide) (fun h_19 => ?_) (fun h_19 => ?_)
  · have h_19 := hb16.f h_19
    refine wp_iconst (pc := 31) G dX5_cell_31 ?_
    first
      | exact wm_iret (pc := 32) G R9 dX5_cell_32 (Or.inr ⟨gc.1, gc.2.1, gc.2.2, by rw [h_25.1 4 (by decide), g4]; exact h_19, f4.tr (h_25.1.up (by decide)), by rw [hm16] at h_25; exact h_25.2⟩)
      | exact wm_iret (pc := 32) G R9 dX5_cell_32 (Or.inl ⟨by rw [g4]; exact (gc.resolve_right (fun q => h_19 q.1)).2, f4⟩)
  · have h_19 := hb16.t h_19
    have gc := (gc.resolve_left (fun q => q.1 h_19)).2
    refine wp_aload_n (pc := 22) G dX5_cell_22 rfl 0 rfl ?_
    refine wp_iload_n (pc := 23) G dX5_cell_23 rfl 1 rfl ?_
    refine wp_iload_n (pc := 24) G dX5_cell_24 rfl 2 rfl ?_
    refine wm_calli2 (pc := 25) G dX5_cell_25 kX5_216 (ct_cellValue hg (by rw [hm16]; exact hA) (by rw [hm16]; show waterZ (M 0) ≤ 4000000; omega) (by rw [hm16]; exact gc.1) gc.2.1) (by decide) (by decide) (Nat.le_of_ble_eq_true rfl) (fun z_25 M_25 h_25 => ?_)
    refine wp_goto (tgt := 32) (pc := 28) G dX5_cell_28 (by decide) ?_
    first
      | exact wm_iret (pc := 32) G R9 dX5_cell_32 (Or.inr ⟨gc.1, gc.2.1, gc.2.2, by rw [h_25.1 4 (by decide), g4]; exact h_19, f4.tr (h_25.1.up (by decide)), by rw [hm16] at h_25; exact h_25.2⟩)
      | exact wm_iret (pc := 32) G R9 dX5_cell_32 (Or.inl ⟨by rw [g4]; exact (gc.resolve_right (fun q => h_19 q.1)).2, f4⟩)
set_option maxHeartbeats 4000000 in
theorem ct_between {g : GV} (hg : GOk g) {ad : Nat → Nat} {M : Nat → Int → Int} (hA : okA (M 0)) (hW : waterZ (M 0) ≤ 1000000) {a : Int} (ha : -2147483648 ≤ a ∧ a ≤ 2147483647) {b : Int} (hb : -2147483648 ≤ b ∧ b ≤ 2147483647) {t : Int} (ht : t = 0 ∨ t = 1) : CMi g ad yX5_between cX5_between 4 4 .int [iV a, iV b, iV t] M (fun z M' => (cod (isC (M 0) a ∧ isC (M 0) b ∧ isNb (M 0) a b) (True) (True) (M' 4 0) ∧ fr SC M M') ∨ ((isC (M 0) a ∧ isC (M 0) b ∧ isNb (M 0) a b) ∧ (True) ∧ (True) ∧ M' 4 0 = 0 ∧ fr SC M M' ∧ z = if t = 0 then M 0 (gat (M 0) a b) else thr (M 0) a b)) := by
  refine wm_ofi hg (by decide +kernel) (Nat.le_of_ble_eq_true rfl) (fun F G R9 => ?_)
  have G : FxOk g F cX5_between RX5 4 4 := G
  refine wp_loc (L' := [(0, _), (1, _), (2, _), (3, _)]) rfl ?_
  refine wp_aload_n (pc := 0) G dX5_between_0 rfl 0 rfl ?_
  refine wp_aload_n (pc := 1) G dX5_between_1 rfl 0 rfl ?_
  refine wp_iload_n (pc := 2) G dX5_between_2 rfl 1 rfl ?_
  refine wp_iload_n (pc := 3) G dX5_between_3 rfl 2 rfl ?_
  refine wm_calli2 (pc := 4) G dX5_between_4 kX5_198 (ct_isPair hg hA.L ha hb) (by decide) (by decide) (Nat.le_of_ble_eq_true rfl) (fun z_4 M_4 h_4 => ?_)
  obtain ⟨rfl, h_4⟩ := h_4
  refine wp_iconst (pc := 7) G dX5_between_7 ?_
  refine wp_iconst (pc := 8) G dX5_between_8 ?_
  refine wm_calli3 (pc := 9) G dX5_between_9 kX5_183 (ct_goes hg h_4.z (by decide) (by decide)) (by decide) (by decide) (Nat.le_of_ble_eq_true rfl) (fun z_9 M_9 h_9 => ?_)
  obtain ⟨hm9, hb9⟩ := h_9
  have gc := goes_c (P := isC (M 0) a ∧ isC (M 0) b ∧ isNb (M 0) a b) (Q := True) (R := True) h_4 (isB.i1 trivial) (isB.i1 trivial)
  have f4 : fr SC M M_9 := by rw [hm9]; exact fr.rf.s1 (by decide)
  have g4 : ∀ t, M_9 = ms1 M 4 t → M_9 4 0 = t := fun t q => by rw [q]; rfl
  have g4 := g4 _ hm9
  refine wp_if_ne (tgt := 17) (pc := 12) G dX5_between_12 hb9.r (by decide) (fun h_12 => ?_) (fun h_12 => ?_)
  · have h_12 := hb9.t h_12
    have gc := (gc.resolve_left (fun q => q.1 h_12)).2
    have z9 : M_9 0 = M 0 := by rw [hm9]; rfl
    refine wp_iload_n (pc := 17) G dX5_between_17 rfl 3 rfl ?_
    refine wp_if_eq (tgt := 30) (pc := 18) G dX5_between_18 (by omega) (by decide) (fun h_18 => ?_) (fun h_18 => ?_)
    · refine wp_aload_n (pc := 30) G dX5_between_30 rfl 0 rfl ?_
      refine wm_get_0 (pc := 31) G dX5_between_31 fX5_7_4 ?_
      refine wp_aload_n (pc := 34) G dX5_between_34 rfl 0 rfl ?_
      refine wp_iload_n (pc := 35) G dX5_between_35 rfl 1 rfl ?_
      refine wp_iload_n (pc := 36) G dX5_between_36 rfl 2 rfl ?_
      refine wm_calli2 (pc := 37) G dX5_between_37 kX5_81 (ct_gateAt hg (by rw [z9]; exact hA.L) (by rw [z9]; exact gc.1.1) (by rw [z9]; exact gc.1.2.1)) (by decide) (by decide) (Nat.le_of_ble_eq_true rfl) (fun z_37 M_37 h_37 => ?_)
      obtain ⟨rfl, h_37⟩ := h_37
      rw [z9] at h_37
      subst h_37
      have hgr := gat_r hA.L gc.1.1 gc.1.2.1
      refine wm_ald_0 (pc := 40) G dX5_between_40 (by omega) ?_
      rw [z9]
      refine wp_l2i (pc := 41) G dX5_between_41 ?_
      first
        | exact wm_iret (pc := 42) G R9 dX5_between_42 (Or.inr ⟨gc.1, gc.2.1, gc.2.2, by rw [g4]; exact h_12, f4, (if_pos h_18).symm⟩)
        | exact wm_iret (pc := 42) G R9 dX5_between_42 (Or.inr ⟨gc.1, gc.2.1, gc.2.2, by rw [g4]; exact h_12, f4, h_24.trans (if_neg h_18).symm⟩)
    · refine wp_aload_n (pc := 21) G dX5_between_21 rfl 0 rfl ?_
      refine wp_iload_n (pc := 22) G dX5_between_22 rfl 1 rfl ?_
      refine wp_iload_n (pc := 23) G dX5_between_23 rfl 2 rfl ?_
      refine wm_calli2 (pc := 24) G dX5_between_24 kX5_84 (ct_threshold hg (by rw [z9]; exact hA.L) (by rw [z9]; exact gc.1.1) (by rw [z9]; exact gc.1.2.1)) (by decide) (by decide) (Nat.le_of_ble_eq_true rfl) (fun z_24 M_24 h_24 => ?_)
      obtain ⟨rfl, h_24⟩ := h_24
      rw [z9] at h_24
      refine wp_goto (tgt := 42) (pc := 27) G dX5_between_27 (by decide) ?_
      first
        | exact wm_iret (pc := 42) G R9 dX5_between_42 (Or.inr ⟨gc.1, gc.2.1, gc.2.2, by rw [g4]; exact h_12, f4, (if_pos h_18).symm⟩)
        | exact wm_iret (pc := 42) G R9 dX5_between_42 (Or.inr ⟨gc.1, gc.2.1, gc.2.2, by rw [g4]; exact h_12, f4, h_24.trans (if_neg h_18).symm⟩)
  · have h_12 := hb9.f h_12
    refine wp_iconst (pc := 15) G dX5_between_15 ?_
    exact wm_iret (pc := 16) G R9 dX5_between_16 (Or.inl ⟨by rw [g4]; exact (gc.resolve_right (fun q => h_12 q.1)).2, f4⟩)
set_option maxHeartbeats 4000000 in
theorem ct_count {g : GV} (hg : GOk g) {ad : Nat → Nat} {M : Nat → Int → Int} (hA : okA (M 0)) (hW : waterZ (M 0) ≤ 1000000) (hB : okB (M 0)) {w : Int} (hw : -2147483648 ≤ w ∧ w ≤ 2147483647) : CMi g ad yX5_count cX5_count 2 8 .int [iV w] M (fun z M' => (cod (0 ≤ w ∧ w ≤ 6) (True) (True) (M' 4 0) ∧ fr SC M M') ∨ ((0 ≤ w ∧ w ≤ 6) ∧ (True) ∧ (True) ∧ M' 4 0 = 0 ∧ fr SC M M' ∧ z = countZ (M 0) w)) := by
  refine wm_ofi hg (by decide +kernel) (Nat.le_of_ble_eq_true rfl) (fun F G R9 => ?_)
  have G : FxOk g F cX5_count RX5 2 8 := G
  refine wp_loc (L' := [(0, _), (1, _)]) rfl ?_
  refine wp_aload_n (pc := 0) G dX5_count_0 rfl 0 rfl ?_
  refine wp_iload_n (pc := 1) G dX5_count_1 rfl 1 rfl ?_
  refine wp_i2l (pc := 2) G dX5_count_2 (by omega) ?_
  refine wp_lconst0 (pc := 3) G dX5_count_3 ?_
  refine wp_ldc2 (z := 6) (pc := 4) G dX5_count_4 q2186 (by decide +kernel) ?_
  refine ws_calli3 (pc := 7) G dX5_count_7 kX5_65 (ct_in hg (by omega) (by omega) (by omega)) (by decide) (by decide) (Nat.le_of_ble_eq_true rfl) (fun z_7 h_7 => ?_)
  refine wp_iconst (pc := 10) G dX5_count_10 ?_
  refine wp_iconst (pc := 11) G dX5_count_11 ?_
  refine wm_calli3 (pc := 12) G dX5_count_12 kX5_183 (ct_goes hg h_7.z (by decide) (by decide)) (by decide) (by decide) (Nat.le_of_ble_eq_true rfl) (fun z_12 M_12 h_12 => ?_)
  obtain ⟨hm12, hb12⟩ := h_12
  have gc := goes_c (P := 0 ≤ w ∧ w ≤ 6) (Q := True) (R := True) h_7 (isB.i1 trivial) (isB.i1 trivial)
  have f4 : fr SC M M_12 := by rw [hm12]; exact fr.rf.s1 (by decide)
  have g4 : ∀ t, M_12 = ms1 M 4 t → M_12 4 0 = t := fun t q => by rw [q]; rfl
  have g4 := g4 _ hm12
  refine wp_if_eq (tgt := 26) (pc := 15) G dX5_count_15 hb12.r (by decide) (fun h_15 => ?_) (fun h_15 => ?_)
  · have h_15 := hb12.f h_15
    refine wp_iconst (pc := 26) G dX5_count_26 ?_
    first
      | exact wm_iret (pc := 27) G R9 dX5_count_27 (Or.inr ⟨gc.1, gc.2.1, gc.2.2, by rw [h_20.1 4 (by decide), g4]; exact h_15, f4.tr (h_20.1.up (by decide)), by rw [hm12] at h_20; exact h_20.2⟩)
      | exact wm_iret (pc := 27) G R9 dX5_count_27 (Or.inl ⟨by rw [g4]; exact (gc.resolve_right (fun q => h_15 q.1)).2, f4⟩)
  · have h_15 := hb12.t h_15
    have gc := (gc.resolve_left (fun q => q.1 h_15)).2
    refine wp_aload_n (pc := 18) G dX5_count_18 rfl 0 rfl ?_
    refine wp_iload_n (pc := 19) G dX5_count_19 rfl 1 rfl ?_
    refine wm_calli1 (pc := 20) G dX5_count_20 kX5_225 (ct_countOf hg (by rw [hm12]; exact hA.L) (by rw [hm12]; exact hA.K (by show waterZ (M 0) ≤ 4000000; omega)) (by rw [hm12]; exact hB) gc.1) (by decide) (by decide) (Nat.le_of_ble_eq_true rfl) (fun z_20 M_20 h_20 => ?_)
    refine wp_goto (tgt := 27) (pc := 23) G dX5_count_23 (by decide) ?_
    first
      | exact wm_iret (pc := 27) G R9 dX5_count_27 (Or.inr ⟨gc.1, gc.2.1, gc.2.2, by rw [h_20.1 4 (by decide), g4]; exact h_15, f4.tr (h_20.1.up (by decide)), by rw [hm12] at h_20; exact h_20.2⟩)
      | exact wm_iret (pc := 27) G R9 dX5_count_27 (Or.inl ⟨by rw [g4]; exact (gc.resolve_right (fun q => h_15 q.1)).2, f4⟩)
set_option maxHeartbeats 4000000 in
theorem ct_balance {g : GV} (hg : GOk g) {ad : Nat → Nat} {M : Nat → Int → Int} (hA : okA (M 0)) (hW : waterZ (M 0) ≤ 1000000) {w : Int} (hw : -2147483648 ≤ w ∧ w ≤ 2147483647) : CMl g ad yX5_balance cX5_balance 2 2 [iV w] M (fun z M' => (cod (0 ≤ w ∧ w ≤ 3) (True) (True) (M' 4 0) ∧ fr SC M M') ∨ ((0 ≤ w ∧ w ≤ 3) ∧ (True) ∧ (True) ∧ M' 4 0 = 0 ∧ fr SC M M' ∧ z = balZ (M 0) w)) := by
  refine wm_ofl hg (by decide +kernel) (Nat.le_of_ble_eq_true rfl) (fun F G R9 => ?_)
  have G : FxOk g F cX5_balance RX5 2 2 := G
  refine wp_loc (L' := [(0, _), (1, _)]) rfl ?_
  refine wp_aload_n (pc := 0) G dX5_balance_0 rfl 0 rfl ?_
  refine wp_iload_n (pc := 1) G dX5_balance_1 rfl 1 rfl ?_
  refine wp_i2l (pc := 2) G dX5_balance_2 (by omega) ?_
  refine wp_lconst0 (pc := 3) G dX5_balance_3 ?_
  refine wp_ldc2 (z := 3) (pc := 4) G dX5_balance_4 q2365 (by decide +kernel) ?_
  refine ws_calli3 (pc := 7) G dX5_balance_7 kX5_65 (ct_in hg (by omega) (by omega) (by omega)) (by decide) (by decide) (Nat.le_of_ble_eq_true rfl) (fun z_7 h_7 => ?_)
  refine wp_iconst (pc := 10) G dX5_balance_10 ?_
  refine wp_iconst (pc := 11) G dX5_balance_11 ?_
  refine wm_calli3 (pc := 12) G dX5_balance_12 kX5_183 (ct_goes hg h_7.z (by decide) (by decide)) (by decide) (by decide) (Nat.le_of_ble_eq_true rfl) (fun z_12 M_12 h_12 => ?_)
  obtain ⟨hm12, hb12⟩ := h_12
  have gc := goes_c (P := 0 ≤ w ∧ w ≤ 3) (Q := True) (R := True) h_7 (isB.i1 trivial) (isB.i1 trivial)
  have f4 : fr SC M M_12 := by rw [hm12]; exact fr.rf.s1 (by decide)
  have g4 : ∀ t, M_12 = ms1 M 4 t → M_12 4 0 = t := fun t q => by rw [q]; rfl
  have g4 := g4 _ hm12
  refine wp_if_eq (tgt := 26) (pc := 15) G dX5_balance_15 hb12.r (by decide) (fun h_15 => ?_) (fun h_15 => ?_)
  · have h_15 := hb12.f h_15
    refine wp_lconst0 (pc := 26) G dX5_balance_26 ?_
    first
      | exact wm_lret (pc := 27) G R9 dX5_balance_27 (Or.inr ⟨gc.1, gc.2.1, gc.2.2, by rw [g4]; exact h_15, f4, by rw [hm12] at h_20; exact h_20⟩)
      | exact wm_lret (pc := 27) G R9 dX5_balance_27 (Or.inl ⟨by rw [g4]; exact (gc.resolve_right (fun q => h_15 q.1)).2, f4⟩)
  · have h_15 := hb12.t h_15
    have gc := (gc.resolve_left (fun q => q.1 h_15)).2
    refine wp_aload_n (pc := 18) G dX5_balance_18 rfl 0 rfl ?_
    refine wp_iload_n (pc := 19) G dX5_balance_19 rfl 1 rfl ?_
    refine wm_calll1 (pc := 20) G dX5_balance_20 kX5_251 (ct_balanceOf hg (by rw [hm12]; exact hA.K (by show waterZ (M 0) ≤ 4000000; omega)) gc.1) (by decide) (by decide) (Nat.le_of_ble_eq_true rfl) (fun z_20 M_20 h_20 => ?_)
    obtain ⟨rfl, h_20⟩ := h_20
    refine wp_goto (tgt := 27) (pc := 23) G dX5_balance_23 (by decide) ?_
    first
      | exact wm_lret (pc := 27) G R9 dX5_balance_27 (Or.inr ⟨gc.1, gc.2.1, gc.2.2, by rw [g4]; exact h_15, f4, by rw [hm12] at h_20; exact h_20⟩)
      | exact wm_lret (pc := 27) G R9 dX5_balance_27 (Or.inl ⟨by rw [g4]; exact (gc.resolve_right (fun q => h_15 q.1)).2, f4⟩)
set_option maxHeartbeats 4000000 in
theorem ct_lake {g : GV} (hg : GOk g) {ad : Nat → Nat} {M : Nat → Int → Int} (hA : okA (M 0)) (hW : waterZ (M 0) ≤ 1000000) (hB : okB (M 0)) {n : Int} (hn : -2147483648 ≤ n ∧ n ≤ 2147483647) {w : Int} (hw : -2147483648 ≤ w ∧ w ≤ 2147483647) : CMi g ad yX5_lake cX5_lake 3 8 .int [iV n, iV w] M (fun z M' => (cod (0 ≤ n ∧ n < nL (M 0)) (0 ≤ w ∧ w ≤ 9) (True) (M' 4 0) ∧ fr SC M M') ∨ ((0 ≤ n ∧ n < nL (M 0)) ∧ (0 ≤ w ∧ w ≤ 9) ∧ (True) ∧ M' 4 0 = 0 ∧ fr SC M M' ∧ z = lkV (M 0) (ordK (M 0) n) w)) := by
  refine wm_ofi hg (by decide +kernel) (Nat.le_of_ble_eq_true rfl) (fun F G R9 => ?_)
  have G : FxOk g F cX5_lake RX5 3 8 := G
  refine wp_loc (L' := [(0, _), (1, _), (2, _)]) rfl ?_
  have hK := hA.K (by omega)
  refine wp_aload_n (pc := 0) G dX5_lake_0 rfl 0 rfl ?_
  refine wp_aload_n (pc := 1) G dX5_lake_1 rfl 0 rfl ?_
  refine wp_iload_n (pc := 2) G dX5_lake_2 rfl 1 rfl ?_
  refine wm_calli1 (pc := 3) G dX5_lake_3 kX5_246 (ct_isLake hg hA.L hK hn) (by decide) (by decide) (Nat.le_of_ble_eq_true rfl) (fun z_3 M_3 h_3 => ?_)
  obtain ⟨h_1o, h_1b⟩ := h_3
  have z1 : M_3 0 = M 0 := h_1o.1 0 (by decide)
  refine wp_iload_n (pc := 6) G dX5_lake_6 rfl 2 rfl ?_
  refine wp_i2l (pc := 7) G dX5_lake_7 (by omega) ?_
  refine wp_lconst0 (pc := 8) G dX5_lake_8 ?_
  refine wp_ldc2 (z := 9) (pc := 9) G dX5_lake_9 q2374 (by decide +kernel) ?_
  refine ws_calli3 (pc := 12) G dX5_lake_12 kX5_65 (ct_in hg (by omega) (by omega) (by omega)) (by decide) (by decide) (Nat.le_of_ble_eq_true rfl) (fun z_12 h_12 => ?_)
  refine wp_iconst (pc := 15) G dX5_lake_15 ?_
  refine wm_calli3 (pc := 16) G dX5_lake_16 kX5_183 (ct_goes hg h_1b.z h_12.z (by decide)) (by decide) (by decide) (Nat.le_of_ble_eq_true rfl) (fun z_16 M_16 h_16 => ?_)
  obtain ⟨hm16, hb16⟩ := h_16
  have gc := goes_c (P := 0 ≤ n ∧ n < nL (M 0)) (Q := 0 ≤ w ∧ w ≤ 9) (R := True) h_1b h_12 (isB.i1 trivial)
  have f4 : fr SC M M_16 := by rw [hm16]; exact (h_1o.1.up (by decide)).s1 (by decide)
  have g4 : ∀ t, M_16 = ms1 M_3 4 t → M_16 4 0 = t := fun t q => by rw [q]; rfl
  have g4 := g4 _ hm16
  have zg : M_16 0 = M 0 := by rw [hm16]; exact z1
  refine wp_if_eq (tgt := 31) (pc := 19) G dX5_lake_19 hb16.r (by decide) (fun h_19 => ?_) (fun h_19 => ?_)
  · have h_19 := hb16.f h_19
    refine wp_iconst (pc := 31) G dX5_lake_31 ?_
    first
      | exact wm_iret (pc := 32) G R9 dX5_lake_32 (Or.inr ⟨gc.1, gc.2.1, gc.2.2, by rw [h_25.1 4 (by decide), g4]; exact h_19, f4.tr (h_25.1.up (by decide)), by rw [zg] at h_25; exact h_25.2.1⟩)
      | exact wm_iret (pc := 32) G R9 dX5_lake_32 (Or.inl ⟨by rw [g4]; exact (gc.resolve_right (fun q => h_19 q.1)).2, f4⟩)
  · have h_19 := hb16.t h_19
    have gc := (gc.resolve_left (fun q => q.1 h_19)).2
    refine wp_aload_n (pc := 22) G dX5_lake_22 rfl 0 rfl ?_
    refine wp_iload_n (pc := 23) G dX5_lake_23 rfl 1 rfl ?_
    refine wp_iload_n (pc := 24) G dX5_lake_24 rfl 2 rfl ?_
    refine wm_calli2 (pc := 25) G dX5_lake_25 kX5_262 (ct_lakeValue hg (by rw [zg]; exact hA) (by rw [zg]; omega) (by rw [zg]; exact hB) (by rw [zg]; exact gc.1) gc.2.1) (by decide) (by decide) (Nat.le_of_ble_eq_true rfl) (fun z_25 M_25 h_25 => ?_)
    refine wp_goto (tgt := 32) (pc := 28) G dX5_lake_28 (by decide) ?_
    first
      | exact wm_iret (pc := 32) G R9 dX5_lake_32 (Or.inr ⟨gc.1, gc.2.1, gc.2.2, by rw [h_25.1 4 (by decide), g4]; exact h_19, f4.tr (h_25.1.up (by decide)), by rw [zg] at h_25; exact h_25.2.1⟩)
      | exact wm_iret (pc := 32) G R9 dX5_lake_32 (Or.inl ⟨by rw [g4]; exact (gc.resolve_right (fun q => h_19 q.1)).2, f4⟩)
set_option maxHeartbeats 4000000 in
theorem ct_lakeCells {g : GV} (hg : GOk g) {ad : Nat → Nat} {M : Nat → Int → Int} (hA : okA (M 0)) (hW : waterZ (M 0) ≤ 1000000) {n : Int} (hn : -2147483648 ≤ n ∧ n ≤ 2147483647) : CMl g ad yX5_lakeCells cX5_lakeCells 2 4 [iV n] M (fun z M' => (cod (0 ≤ n ∧ n < nL (M 0)) (True) (True) (M' 4 0) ∧ fr SC M M') ∨ ((0 ≤ n ∧ n < nL (M 0)) ∧ (True) ∧ (True) ∧ M' 4 0 = 0 ∧ fr SC M M' ∧ z = M 0 (152 + ordK (M 0) n))) := by
  refine wm_ofl hg (by decide +kernel) (Nat.le_of_ble_eq_true rfl) (fun F G R9 => ?_)
  have G : FxOk g F cX5_lakeCells RX5 2 4 := G
  refine wp_loc (L' := [(0, _), (1, _)]) rfl ?_
  have hK := hA.K (by omega)
  refine wp_aload_n (pc := 0) G dX5_lakeCells_0 rfl 0 rfl ?_
  refine wp_aload_n (pc := 1) G dX5_lakeCells_1 rfl 0 rfl ?_
  refine wp_iload_n (pc := 2) G dX5_lakeCells_2 rfl 1 rfl ?_
  refine wm_calli1 (pc := 3) G dX5_lakeCells_3 kX5_246 (ct_isLake hg hA.L hK hn) (by decide) (by decide) (Nat.le_of_ble_eq_true rfl) (fun z_3 M_3 h_3 => ?_)
  obtain ⟨h_1o, h_1b⟩ := h_3
  have z1 : M_3 0 = M 0 := h_1o.1 0 (by decide)
  refine wp_iconst (pc := 6) G dX5_lakeCells_6 ?_
  refine wp_iconst (pc := 7) G dX5_lakeCells_7 ?_
  refine wm_calli3 (pc := 8) G dX5_lakeCells_8 kX5_183 (ct_goes hg h_1b.z (by decide) (by decide)) (by decide) (by decide) (Nat.le_of_ble_eq_true rfl) (fun z_8 M_8 h_8 => ?_)
  obtain ⟨hm8, hb8⟩ := h_8
  have gc := goes_c (P := 0 ≤ n ∧ n < nL (M 0)) (Q := True) (R := True) h_1b (isB.i1 trivial) (isB.i1 trivial)
  have f4 : fr SC M M_8 := by rw [hm8]; exact (h_1o.1.up (by decide)).s1 (by decide)
  have g4 : ∀ t, M_8 = ms1 M_3 4 t → M_8 4 0 = t := fun t q => by rw [q]; rfl
  have g4 := g4 _ hm8
  have zg : M_8 0 = M 0 := by rw [hm8]; exact z1
  refine wp_if_eq (tgt := 32) (pc := 11) G dX5_lakeCells_11 hb8.r (by decide) (fun h_11 => ?_) (fun h_11 => ?_)
  · have h_11 := hb8.f h_11
    refine wp_lconst0 (pc := 32) G dX5_lakeCells_32 ?_
    first
      | exact wm_lret (pc := 33) G R9 dX5_lakeCells_33 (Or.inr ⟨gc.1, gc.2.1, gc.2.2, by rw [g4]; exact h_11, f4, rfl⟩)
      | exact wm_lret (pc := 33) G R9 dX5_lakeCells_33 (Or.inl ⟨by rw [g4]; exact (gc.resolve_right (fun q => h_11 q.1)).2, f4⟩)
  · have h_11 := hb8.t h_11
    have gc := (gc.resolve_left (fun q => q.1 h_11)).2
    refine wp_aload_n (pc := 14) G dX5_lakeCells_14 rfl 0 rfl ?_
    refine wm_get_0 (pc := 15) G dX5_lakeCells_15 fX5_7_4 ?_
    refine wp_sipush (pc := 18) G dX5_lakeCells_18 (by decide) ?_
    refine wp_aload_n (pc := 21) G dX5_lakeCells_21 rfl 0 rfl ?_
    refine wm_get_11 (pc := 22) G dX5_lakeCells_22 fX5_29_4 ?_
    have hn36 := nL_r hA.L
    refine wp_iload_n (pc := 25) G dX5_lakeCells_25 rfl 1 rfl ?_
    refine wm_ald_11 (pc := 26) G dX5_lakeCells_26 (by omega) ?_
    have o8 : M_8 11 n = ordK (M 0) n := by
      rw [← ordK_e hA.L h_1o gc.1, hm8]
      rfl
    rw [o8]
    have hk := ordK_k hA.L gc.1
    have hk1 := hk.1
    refine wp_iadd (pc := 27) G dX5_lakeCells_27 ?_
    refine wm_ald_0 (pc := 28) G dX5_lakeCells_28 (by omega) ?_
    rw [zg]
    refine wp_goto (tgt := 33) (pc := 29) G dX5_lakeCells_29 (by decide) ?_
    first
      | exact wm_lret (pc := 33) G R9 dX5_lakeCells_33 (Or.inr ⟨gc.1, gc.2.1, gc.2.2, by rw [g4]; exact h_11, f4, rfl⟩)
      | exact wm_lret (pc := 33) G R9 dX5_lakeCells_33 (Or.inl ⟨by rw [g4]; exact (gc.resolve_right (fun q => h_11 q.1)).2, f4⟩)
set_option maxHeartbeats 4000000 in
theorem ct_level {g : GV} (hg : GOk g) {ad : Nat → Nat} {M : Nat → Int → Int} (hA : okA (M 0)) (hW : waterZ (M 0) ≤ 1000000) {n : Int} (hn : -2147483648 ≤ n ∧ n ≤ 2147483647) {w : Int} (hw : -2147483648 ≤ w ∧ w ≤ 2147483647) : CMi g ad yX5_level cX5_level 3 4 .int [iV n, iV w] M (fun z M' => (cod (0 ≤ n ∧ n < nL (M 0)) (0 ≤ w ∧ w ≤ 1) (True) (M' 4 0) ∧ fr SC M M') ∨ ((0 ≤ n ∧ n < nL (M 0)) ∧ (0 ≤ w ∧ w ≤ 1) ∧ (True) ∧ M' 4 0 = 0 ∧ fr SC M M' ∧ z = lvZ (M 0) (ordK (M 0) n) w)) := by
  refine wm_ofi hg (by decide +kernel) (Nat.le_of_ble_eq_true rfl) (fun F G R9 => ?_)
  have G : FxOk g F cX5_level RX5 3 4 := G
  refine wp_loc (L' := [(0, _), (1, _), (2, _)]) rfl ?_
  have hK := hA.K (by omega)
  refine wp_aload_n (pc := 0) G dX5_level_0 rfl 0 rfl ?_
  refine wp_aload_n (pc := 1) G dX5_level_1 rfl 0 rfl ?_
  refine wp_iload_n (pc := 2) G dX5_level_2 rfl 1 rfl ?_
  refine wm_calli1 (pc := 3) G dX5_level_3 kX5_246 (ct_isLake hg hA.L hK hn) (by decide) (by decide) (Nat.le_of_ble_eq_true rfl) (fun z_3 M_3 h_3 => ?_)
  obtain ⟨h_1o, h_1b⟩ := h_3
  have z1 : M_3 0 = M 0 := h_1o.1 0 (by decide)
  refine wp_iload_n (pc := 6) G dX5_level_6 rfl 2 rfl ?_
  refine wp_i2l (pc := 7) G dX5_level_7 (by omega) ?_
  refine wp_lconst0 (pc := 8) G dX5_level_8 ?_
  refine wp_lconst1 (pc := 9) G dX5_level_9 ?_
  refine ws_calli3 (pc := 10) G dX5_level_10 kX5_65 (ct_in hg (by omega) (by omega) (by omega)) (by decide) (by decide) (Nat.le_of_ble_eq_true rfl) (fun z_10 h_10 => ?_)
  refine wp_iconst (pc := 13) G dX5_level_13 ?_
  refine wm_calli3 (pc := 14) G dX5_level_14 kX5_183 (ct_goes hg h_1b.z h_10.z (by decide)) (by decide) (by decide) (Nat.le_of_ble_eq_true rfl) (fun z_14 M_14 h_14 => ?_)
  obtain ⟨hm14, hb14⟩ := h_14
  have gc := goes_c (P := 0 ≤ n ∧ n < nL (M 0)) (Q := 0 ≤ w ∧ w ≤ 1) (R := True) h_1b h_10 (isB.i1 trivial)
  have f4 : fr SC M M_14 := by rw [hm14]; exact (h_1o.1.up (by decide)).s1 (by decide)
  have g4 : ∀ t, M_14 = ms1 M_3 4 t → M_14 4 0 = t := fun t q => by rw [q]; rfl
  have g4 := g4 _ hm14
  have zg : M_14 0 = M 0 := by rw [hm14]; exact z1
  refine wp_if_eq (tgt := 29) (pc := 17) G dX5_level_17 hb14.r (by decide) (fun h_17 => ?_) (fun h_17 => ?_)
  · have h_17 := hb14.f h_17
    refine wp_iconst (pc := 29) G dX5_level_29 ?_
    first
      | exact wm_iret (pc := 30) G R9 dX5_level_30 (Or.inr ⟨gc.1, gc.2.1, gc.2.2, by rw [h_23.1 4 (by decide), g4]; exact h_17, f4.tr (h_23.1.up (by decide)), by rw [zg] at h_23; exact h_23.2.1⟩)
      | exact wm_iret (pc := 30) G R9 dX5_level_30 (Or.inl ⟨by rw [g4]; exact (gc.resolve_right (fun q => h_17 q.1)).2, f4⟩)
  · have h_17 := hb14.t h_17
    have gc := (gc.resolve_left (fun q => q.1 h_17)).2
    refine wp_aload_n (pc := 20) G dX5_level_20 rfl 0 rfl ?_
    refine wp_iload_n (pc := 21) G dX5_level_21 rfl 1 rfl ?_
    refine wp_iload_n (pc := 22) G dX5_level_22 rfl 2 rfl ?_
    refine wm_calli2 (pc := 23) G dX5_level_23 kX5_269 (ct_levelPart hg (by rw [zg]; exact hA) (by rw [zg]; omega) (by rw [zg]; exact gc.1) (by omega)) (by decide) (by decide) (Nat.le_of_ble_eq_true rfl) (fun z_23 M_23 h_23 => ?_)
    refine wp_goto (tgt := 30) (pc := 26) G dX5_level_26 (by decide) ?_
    first
      | exact wm_iret (pc := 30) G R9 dX5_level_30 (Or.inr ⟨gc.1, gc.2.1, gc.2.2, by rw [h_23.1 4 (by decide), g4]; exact h_17, f4.tr (h_23.1.up (by decide)), by rw [zg] at h_23; exact h_23.2.1⟩)
      | exact wm_iret (pc := 30) G R9 dX5_level_30 (Or.inl ⟨by rw [g4]; exact (gc.resolve_right (fun q => h_17 q.1)).2, f4⟩)
