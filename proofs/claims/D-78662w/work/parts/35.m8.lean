/-! THE MODEL: the text -/
set_option maxRecDepth 100000
set_option maxHeartbeats 4000000 in
theorem ct_isFigure {g : GV} (hg : GOk g) {ad : Nat → Nat} {M : Nat → Int → Int} (hX : okX M) : CMi g ad yX5_isFigure cX5_isFigure 1 1 .boolean [] M (fun z M' => M = M' ∧ isB z (fig (M 20) (M 21 0) (M 22 0))) := by
  refine wm_ofi hg (by decide +kernel) (Nat.le_of_ble_eq_true rfl) (fun F G R9 => ?_)
  have G : FxOk g F cX5_isFigure RX5 1 1 := G
  refine wp_loc (L' := [(0, _)]) rfl ?_
  obtain ⟨hn9, ht9, hp9⟩ := hX
  refine wp_aload_n (pc := 0) G dX5_isFigure_0 rfl 0 rfl ?_
  refine wm_get_22 (pc := 1) G dX5_isFigure_1 fX5_291_4 ?_
  refine wp_aload_n (pc := 4) G dX5_isFigure_4 rfl 0 rfl ?_
  refine wm_get_21 (pc := 5) G dX5_isFigure_5 fX5_288_4 ?_
  refine wp_icmp_ge (tgt := 37) (pc := 8) G dX5_isFigure_8 (by omega) (by omega) (by decide) (fun h_8 => ?_) (fun h_8 => ?_)
  · refine wp_iconst (pc := 37) G dX5_isFigure_37 ?_
    first | exact wm_zret (pc := 38) G R9 dX5_isFigure_38 (by decide) ⟨rfl, isB.i1 ⟨h_8, h_30.1, h_30.2⟩⟩ | exact wm_zret (pc := 38) G R9 dX5_isFigure_38 (by decide) ⟨rfl, isB.i0 (fun q => by first | exact h_30 ⟨q.2.1, q.2.2⟩ | (have := q.1; omega))⟩
  · have htp := ht9 (M 22 0) (by omega)
    refine wp_aload_n (pc := 11) G dX5_isFigure_11 rfl 0 rfl ?_
    refine wm_get_20 (pc := 12) G dX5_isFigure_12 fX5_44_4 ?_
    refine wp_aload_n (pc := 15) G dX5_isFigure_15 rfl 0 rfl ?_
    refine wm_get_22 (pc := 16) G dX5_isFigure_16 fX5_291_4 ?_
    refine wm_ald_20 (pc := 19) G dX5_isFigure_19 (by omega) ?_
    refine wp_i2l (pc := 20) G dX5_isFigure_20 (by omega) ?_
    refine wp_ldc2 (z := 48) (pc := 21) G dX5_isFigure_21 q2481 (by decide +kernel) ?_
    refine wp_ldc2 (z := 57) (pc := 24) G dX5_isFigure_24 q2482 (by decide +kernel) ?_
    refine ws_calli3 (pc := 27) G dX5_isFigure_27 kX5_65 (ct_in hg (by omega) (by omega) (by omega)) (by decide) (by decide) (Nat.le_of_ble_eq_true rfl) (fun z_27 h_27 => ?_)
    refine wp_if_eq (tgt := 37) (pc := 30) G dX5_isFigure_30 h_27.r (by decide) (fun h_30 => ?_) (fun h_30 => ?_)
    · have h_30 := h_27.f h_30
      refine wp_iconst (pc := 37) G dX5_isFigure_37 ?_
      first | exact wm_zret (pc := 38) G R9 dX5_isFigure_38 (by decide) ⟨rfl, isB.i1 ⟨h_8, h_30.1, h_30.2⟩⟩ | exact wm_zret (pc := 38) G R9 dX5_isFigure_38 (by decide) ⟨rfl, isB.i0 (fun q => by first | exact h_30 ⟨q.2.1, q.2.2⟩ | (have := q.1; omega))⟩
    · have h_30 := h_27.t h_30
      refine wp_iconst (pc := 33) G dX5_isFigure_33 ?_
      refine wp_goto (tgt := 38) (pc := 34) G dX5_isFigure_34 (by decide) ?_
      first | exact wm_zret (pc := 38) G R9 dX5_isFigure_38 (by decide) ⟨rfl, isB.i1 ⟨h_8, h_30.1, h_30.2⟩⟩ | exact wm_zret (pc := 38) G R9 dX5_isFigure_38 (by decide) ⟨rfl, isB.i0 (fun q => by first | exact h_30 ⟨q.2.1, q.2.2⟩ | (have := q.1; omega))⟩
set_option maxHeartbeats 4000000 in
theorem ct_passes {g : GV} (hg : GOk g) {ad : Nat → Nat} {M : Nat → Int → Int} (hX : okX M) {c : Int} (hc : 0 ≤ c ∧ c ≤ 127) : CMi g ad yX5_passes cX5_passes 3 0 .boolean [iV c] M (fun z M' => M' = ms1 M 22 (if M 22 0 < M 21 0 ∧ M 20 (M 22 0) = c then M 22 0 + 1 else M 22 0) ∧ isB z (M 22 0 < M 21 0 ∧ M 20 (M 22 0) = c)) := by
  refine wm_ofi hg (by decide +kernel) (Nat.le_of_ble_eq_true rfl) (fun F G R9 => ?_)
  have G : FxOk g F cX5_passes RX5 3 0 := G
  refine wp_loc (L' := [(0, _), (1, _)]) rfl ?_
  obtain ⟨hn9, ht9, hp9⟩ := hX
  refine wp_aload_n (pc := 0) G dX5_passes_0 rfl 0 rfl ?_
  refine wm_get_22 (pc := 1) G dX5_passes_1 fX5_291_4 ?_
  refine wp_aload_n (pc := 4) G dX5_passes_4 rfl 0 rfl ?_
  refine wm_get_21 (pc := 5) G dX5_passes_5 fX5_288_4 ?_
  refine wp_icmp_ge (tgt := 28) (pc := 8) G dX5_passes_8 (by omega) (by omega) (by decide) (fun h_8 => ?_) (fun h_8 => ?_)
  · refine wp_iconst (pc := 28) G dX5_passes_28 ?_
    refine wp_istore_n (L' := [(2, _), (0, _), (1, _)]) (pc := 29) G dX5_passes_29 rfl (by decide) rfl ?_
    refine wp_aload_n (pc := 30) G dX5_passes_30 rfl 1 rfl ?_
    refine wp_dup (pc := 31) G dX5_passes_31 rfl ?_
    refine wm_get_22 (pc := 32) G dX5_passes_32 fX5_291_4 ?_
    refine wp_iload_n (pc := 35) G dX5_passes_35 rfl 0 rfl ?_
    refine wp_if_eq (tgt := 43) (pc := 36) G dX5_passes_36 (by omega) (by decide) (fun h_36 => ?_) (fun h_36 => ?_)
    · refine wp_iconst (pc := 43) G dX5_passes_43 ?_
      refine wp_iadd (pc := 44) G dX5_passes_44 ?_
      refine wm_put_22 (pc := 45) G dX5_passes_45 fX5_291_4 ?_
      refine wp_iload_n (pc := 48) G dX5_passes_48 rfl 0 rfl ?_
      first
        | exact absurd h_36 (by decide)
        | exact wm_zret (pc := 49) G R9 dX5_passes_49 (by decide) ⟨by rw [if_pos ⟨h_8, h_21⟩], isB.i1 ⟨h_8, h_21⟩⟩
        | exact wm_zret (pc := 49) G R9 dX5_passes_49 (by decide) ⟨by rw [if_neg (fun q => by first | exact h_21 q.2 | (have := q.1; omega)), Int.add_zero], isB.i0 (fun q => by first | exact h_21 q.2 | (have := q.1; omega))⟩
    · refine wp_iconst (pc := 39) G dX5_passes_39 ?_
      refine wp_goto (tgt := 44) (pc := 40) G dX5_passes_40 (by decide) ?_
      refine wp_iadd (pc := 44) G dX5_passes_44 ?_
      refine wm_put_22 (pc := 45) G dX5_passes_45 fX5_291_4 ?_
      refine wp_iload_n (pc := 48) G dX5_passes_48 rfl 0 rfl ?_
      first
        | exact absurd h_36 (by decide)
        | exact wm_zret (pc := 49) G R9 dX5_passes_49 (by decide) ⟨by rw [if_pos ⟨h_8, h_21⟩], isB.i1 ⟨h_8, h_21⟩⟩
        | exact wm_zret (pc := 49) G R9 dX5_passes_49 (by decide) ⟨by rw [if_neg (fun q => by first | exact h_21 q.2 | (have := q.1; omega)), Int.add_zero], isB.i0 (fun q => by first | exact h_21 q.2 | (have := q.1; omega))⟩
  · have htp := ht9 (M 22 0) (by omega)
    refine wp_aload_n (pc := 11) G dX5_passes_11 rfl 0 rfl ?_
    refine wm_get_20 (pc := 12) G dX5_passes_12 fX5_44_4 ?_
    refine wp_aload_n (pc := 15) G dX5_passes_15 rfl 0 rfl ?_
    refine wm_get_22 (pc := 16) G dX5_passes_16 fX5_291_4 ?_
    refine wm_ald_20 (pc := 19) G dX5_passes_19 (by omega) ?_
    refine wp_iload_n (pc := 20) G dX5_passes_20 rfl 1 rfl ?_
    refine wp_icmp_ne (tgt := 28) (pc := 21) G dX5_passes_21 (by omega) (by omega) (by decide) (fun h_21 => ?_) (fun h_21 => ?_)
    · refine wp_iconst (pc := 28) G dX5_passes_28 ?_
      refine wp_istore_n (L' := [(2, _), (0, _), (1, _)]) (pc := 29) G dX5_passes_29 rfl (by decide) rfl ?_
      refine wp_aload_n (pc := 30) G dX5_passes_30 rfl 1 rfl ?_
      refine wp_dup (pc := 31) G dX5_passes_31 rfl ?_
      refine wm_get_22 (pc := 32) G dX5_passes_32 fX5_291_4 ?_
      refine wp_iload_n (pc := 35) G dX5_passes_35 rfl 0 rfl ?_
      refine wp_if_eq (tgt := 43) (pc := 36) G dX5_passes_36 (by omega) (by decide) (fun h_36 => ?_) (fun h_36 => ?_)
      · refine wp_iconst (pc := 43) G dX5_passes_43 ?_
        refine wp_iadd (pc := 44) G dX5_passes_44 ?_
        refine wm_put_22 (pc := 45) G dX5_passes_45 fX5_291_4 ?_
        refine wp_iload_n (pc := 48) G dX5_passes_48 rfl 0 rfl ?_
        first
          | exact absurd h_36 (by decide)
          | exact wm_zret (pc := 49) G R9 dX5_passes_49 (by decide) ⟨by rw [if_pos ⟨h_8, h_21⟩], isB.i1 ⟨h_8, h_21⟩⟩
          | exact wm_zret (pc := 49) G R9 dX5_passes_49 (by decide) ⟨by rw [if_neg (fun q => by first | exact h_21 q.2 | (have := q.1; omega)), Int.add_zero], isB.i0 (fun q => by first | exact h_21 q.2 | (have := q.1; omega))⟩
      · refine wp_iconst (pc := 39) G dX5_passes_39 ?_
        refine wp_goto (tgt := 44) (pc := 40) G dX5_passes_40 (by decide) ?_
        refine wp_iadd (pc := 44) G dX5_passes_44 ?_
        refine wm_put_22 (pc := 45) G dX5_passes_45 fX5_291_4 ?_
        refine wp_iload_n (pc := 48) G dX5_passes_48 rfl 0 rfl ?_
        first
          | exact absurd h_36 (by decide)
          | exact wm_zret (pc := 49) G R9 dX5_passes_49 (by decide) ⟨by rw [if_pos ⟨h_8, h_21⟩], isB.i1 ⟨h_8, h_21⟩⟩
          | exact wm_zret (pc := 49) G R9 dX5_passes_49 (by decide) ⟨by rw [if_neg (fun q => by first | exact h_21 q.2 | (have := q.1; omega)), Int.add_zero], isB.i0 (fun q => by first | exact h_21 q.2 | (have := q.1; omega))⟩
    · refine wp_iconst (pc := 24) G dX5_passes_24 ?_
      refine wp_goto (tgt := 29) (pc := 25) G dX5_passes_25 (by decide) ?_
      refine wp_istore_n (L' := [(2, _), (0, _), (1, _)]) (pc := 29) G dX5_passes_29 rfl (by decide) rfl ?_
      refine wp_aload_n (pc := 30) G dX5_passes_30 rfl 1 rfl ?_
      refine wp_dup (pc := 31) G dX5_passes_31 rfl ?_
      refine wm_get_22 (pc := 32) G dX5_passes_32 fX5_291_4 ?_
      refine wp_iload_n (pc := 35) G dX5_passes_35 rfl 0 rfl ?_
      refine wp_if_eq (tgt := 43) (pc := 36) G dX5_passes_36 (by omega) (by decide) (fun h_36 => ?_) (fun h_36 => ?_)
      · refine wp_iconst (pc := 43) G dX5_passes_43 ?_
        refine wp_iadd (pc := 44) G dX5_passes_44 ?_
        refine wm_put_22 (pc := 45) G dX5_passes_45 fX5_291_4 ?_
        refine wp_iload_n (pc := 48) G dX5_passes_48 rfl 0 rfl ?_
        first
          | exact absurd h_36 (by decide)
          | exact wm_zret (pc := 49) G R9 dX5_passes_49 (by decide) ⟨by rw [if_pos ⟨h_8, h_21⟩], isB.i1 ⟨h_8, h_21⟩⟩
          | exact wm_zret (pc := 49) G R9 dX5_passes_49 (by decide) ⟨by rw [if_neg (fun q => by first | exact h_21 q.2 | (have := q.1; omega)), Int.add_zero], isB.i0 (fun q => by first | exact h_21 q.2 | (have := q.1; omega))⟩
      · refine wp_iconst (pc := 39) G dX5_passes_39 ?_
        refine wp_goto (tgt := 44) (pc := 40) G dX5_passes_40 (by decide) ?_
        refine wp_iadd (pc := 44) G dX5_passes_44 ?_
        refine wm_put_22 (pc := 45) G dX5_passes_45 fX5_291_4 ?_
        refine wp_iload_n (pc := 48) G dX5_passes_48 rfl 0 rfl ?_
        first
          | exact absurd h_36 (by decide)
          | exact wm_zret (pc := 49) G R9 dX5_passes_49 (by decide) ⟨by rw [if_pos ⟨h_8, h_21⟩], isB.i1 ⟨h_8, h_21⟩⟩
          | exact wm_zret (pc := 49) G R9 dX5_passes_49 (by decide) ⟨by rw [if_neg (fun q => by first | exact h_21 q.2 | (have := q.1; omega)), Int.add_zero], isB.i0 (fun q => by first | exact h_21 q.2 | (have := q.1; omega))⟩
set_option maxHeartbeats 4000000 in
theorem ct_readsSize {g : GV} (hg : GOk g) {ad : Nat → Nat} {M : Nat → Int → Int} (hX : okX M) : CMi g ad yX5_readsSize cX5_readsSize 2 1 .boolean [] M (fun z M' => fr [22, 23] M M' ∧ isB z (szP (M 20) (M 21 0) (M 22 0)) ∧ (z = 1 → M' 23 0 = M 20 (M 22 0) - 48 ∧ M' 22 0 = M 22 0 + 1) ∧ (z = 0 → M' 22 0 = M 22 0)) := by
  refine wm_ofi hg (by decide +kernel) (Nat.le_of_ble_eq_true rfl) (fun F G R9 => ?_)
  have G : FxOk g F cX5_readsSize RX5 2 1 := G
  refine wp_loc (L' := [(0, _)]) rfl ?_
  obtain ⟨hn9, ht9, hp9⟩ := hX
  refine wp_aload_n (pc := 0) G dX5_readsSize_0 rfl 0 rfl ?_
  refine wm_get_22 (pc := 1) G dX5_readsSize_1 fX5_291_4 ?_
  refine wp_aload_n (pc := 4) G dX5_readsSize_4 rfl 0 rfl ?_
  refine wm_get_21 (pc := 5) G dX5_readsSize_5 fX5_288_4 ?_
  refine wp_icmp_ge (tgt := 37) (pc := 8) G dX5_readsSize_8 (by omega) (by omega) (by decide) (fun h_8 => ?_) (fun h_8 => ?_)
  · refine wp_iconst (pc := 37) G dX5_readsSize_37 ?_
    refine wp_istore_n (L' := [(1, _), (0, _)]) (pc := 38) G dX5_readsSize_38 rfl (by decide) rfl ?_
    refine wp_aload_n (pc := 39) G dX5_readsSize_39 rfl 1 rfl ?_
    refine wp_iload_n (pc := 40) G dX5_readsSize_40 rfl 0 rfl ?_
    refine wp_if_eq (tgt := 59) (pc := 41) G dX5_readsSize_41 (by omega) (by decide) (fun h_41 => ?_) (fun h_41 => ?_)
    · refine wp_iconst (pc := 59) G dX5_readsSize_59 ?_
      refine wm_put_23 (pc := 60) G dX5_readsSize_60 fX5_302_4 ?_
      refine wp_aload_n (pc := 63) G dX5_readsSize_63 rfl 1 rfl ?_
      refine wp_dup (pc := 64) G dX5_readsSize_64 rfl ?_
      refine wm_get_22 (pc := 65) G dX5_readsSize_65 fX5_291_4 ?_
      refine wp_iload_n (pc := 68) G dX5_readsSize_68 rfl 0 rfl ?_
      refine wp_if_eq (tgt := 76) (pc := 69) G dX5_readsSize_69 (by omega) (by decide) (fun h_69 => ?_) (fun h_69 => ?_)
      · refine wp_iconst (pc := 76) G dX5_readsSize_76 ?_
        refine wp_iadd (pc := 77) G dX5_readsSize_77 ?_
        refine wm_put_22 (pc := 78) G dX5_readsSize_78 fX5_291_4 ?_
        refine wp_iload_n (pc := 81) G dX5_readsSize_81 rfl 0 rfl ?_
        first
          | exact absurd h_41 (by decide)
          | exact absurd h_69 (by decide)
          | exact wm_zret (pc := 82) G R9 dX5_readsSize_82 (by decide) ⟨(fr.rf.s1 (by decide)).s1 (by decide), isB.i1 ⟨h_8, h_30.1, h_30.2⟩, fun _ => ⟨rfl, rfl⟩, fun q => absurd q (by decide)⟩
          | exact wm_zret (pc := 82) G R9 dX5_readsSize_82 (by decide) ⟨(fr.rf.s1 (by decide)).s1 (by decide), isB.i0 (fun q => by first | exact h_30 ⟨q.2.1, q.2.2⟩ | (have := q.1; omega)), fun q => absurd q (by decide), fun _ => Int.add_zero _⟩
      · refine wp_iconst (pc := 72) G dX5_readsSize_72 ?_
        refine wp_goto (tgt := 77) (pc := 73) G dX5_readsSize_73 (by decide) ?_
        refine wp_iadd (pc := 77) G dX5_readsSize_77 ?_
        refine wm_put_22 (pc := 78) G dX5_readsSize_78 fX5_291_4 ?_
        refine wp_iload_n (pc := 81) G dX5_readsSize_81 rfl 0 rfl ?_
        first
          | exact absurd h_41 (by decide)
          | exact absurd h_69 (by decide)
          | exact wm_zret (pc := 82) G R9 dX5_readsSize_82 (by decide) ⟨(fr.rf.s1 (by decide)).s1 (by decide), isB.i1 ⟨h_8, h_30.1, h_30.2⟩, fun _ => ⟨rfl, rfl⟩, fun q => absurd q (by decide)⟩
          | exact wm_zret (pc := 82) G R9 dX5_readsSize_82 (by decide) ⟨(fr.rf.s1 (by decide)).s1 (by decide), isB.i0 (fun q => by first | exact h_30 ⟨q.2.1, q.2.2⟩ | (have := q.1; omega)), fun q => absurd q (by decide), fun _ => Int.add_zero _⟩
    · refine wp_aload_n (pc := 44) G dX5_readsSize_44 rfl 1 rfl ?_
      refine wm_get_20 (pc := 45) G dX5_readsSize_45 fX5_44_4 ?_
      refine wp_aload_n (pc := 48) G dX5_readsSize_48 rfl 1 rfl ?_
      refine wm_get_22 (pc := 49) G dX5_readsSize_49 fX5_291_4 ?_
      refine wm_ald_20 (pc := 52) G dX5_readsSize_52 (by omega) ?_
      refine wp_bipush (pc := 53) G dX5_readsSize_53 (by decide) ?_
      refine wp_isub (pc := 55) G dX5_readsSize_55 ?_
      refine wp_goto (tgt := 60) (pc := 56) G dX5_readsSize_56 (by decide) ?_
      refine wm_put_23 (pc := 60) G dX5_readsSize_60 fX5_302_4 ?_
      refine wp_aload_n (pc := 63) G dX5_readsSize_63 rfl 1 rfl ?_
      refine wp_dup (pc := 64) G dX5_readsSize_64 rfl ?_
      refine wm_get_22 (pc := 65) G dX5_readsSize_65 fX5_291_4 ?_
      refine wp_iload_n (pc := 68) G dX5_readsSize_68 rfl 0 rfl ?_
      refine wp_if_eq (tgt := 76) (pc := 69) G dX5_readsSize_69 (by omega) (by decide) (fun h_69 => ?_) (fun h_69 => ?_)
      · refine wp_iconst (pc := 76) G dX5_readsSize_76 ?_
        refine wp_iadd (pc := 77) G dX5_readsSize_77 ?_
        refine wm_put_22 (pc := 78) G dX5_readsSize_78 fX5_291_4 ?_
        refine wp_iload_n (pc := 81) G dX5_readsSize_81 rfl 0 rfl ?_
        first
          | exact absurd h_41 (by decide)
          | exact absurd h_69 (by decide)
          | exact wm_zret (pc := 82) G R9 dX5_readsSize_82 (by decide) ⟨(fr.rf.s1 (by decide)).s1 (by decide), isB.i1 ⟨h_8, h_30.1, h_30.2⟩, fun _ => ⟨rfl, rfl⟩, fun q => absurd q (by decide)⟩
          | exact wm_zret (pc := 82) G R9 dX5_readsSize_82 (by decide) ⟨(fr.rf.s1 (by decide)).s1 (by decide), isB.i0 (fun q => by first | exact h_30 ⟨q.2.1, q.2.2⟩ | (have := q.1; omega)), fun q => absurd q (by decide), fun _ => Int.add_zero _⟩
      · refine wp_iconst (pc := 72) G dX5_readsSize_72 ?_
        refine wp_goto (tgt := 77) (pc := 73) G dX5_readsSize_73 (by decide) ?_
        refine wp_iadd (pc := 77) G dX5_readsSize_77 ?_
        refine wm_put_22 (pc := 78) G dX5_readsSize_78 fX5_291_4 ?_
        refine wp_iload_n (pc := 81) G dX5_readsSize_81 rfl 0 rfl ?_
        first
          | exact absurd h_41 (by decide)
          | exact absurd h_69 (by decide)
          | exact wm_zret (pc := 82) G R9 dX5_readsSize_82 (by decide) ⟨(fr.rf.s1 (by decide)).s1 (by decide), isB.i1 ⟨h_8, h_30.1, h_30.2⟩, fun _ => ⟨rfl, rfl⟩, fun q => absurd q (by decide)⟩
          | exact wm_zret (pc := 82) G R9 dX5_readsSize_82 (by decide) ⟨(fr.rf.s1 (by decide)).s1 (by decide), isB.i0 (fun q => by first | exact h_30 ⟨q.2.1, q.2.2⟩ | (have := q.1; omega)), fun q => absurd q (by decide), fun _ => Int.add_zero _⟩
  · have htp := ht9 (M 22 0) (by omega)
    refine wp_aload_n (pc := 11) G dX5_readsSize_11 rfl 0 rfl ?_
    refine wm_get_20 (pc := 12) G dX5_readsSize_12 fX5_44_4 ?_
    refine wp_aload_n (pc := 15) G dX5_readsSize_15 rfl 0 rfl ?_
    refine wm_get_22 (pc := 16) G dX5_readsSize_16 fX5_291_4 ?_
    refine wm_ald_20 (pc := 19) G dX5_readsSize_19 (by omega) ?_
    refine wp_i2l (pc := 20) G dX5_readsSize_20 (by omega) ?_
    refine wp_ldc2 (z := 49) (pc := 21) G dX5_readsSize_21 q2463 (by decide +kernel) ?_
    refine wp_ldc2 (z := 54) (pc := 24) G dX5_readsSize_24 q2464 (by decide +kernel) ?_
    refine ws_calli3 (pc := 27) G dX5_readsSize_27 kX5_65 (ct_in hg (by omega) (by omega) (by omega)) (by decide) (by decide) (Nat.le_of_ble_eq_true rfl) (fun z_27 h_27 => ?_)
    refine wp_if_eq (tgt := 37) (pc := 30) G dX5_readsSize_30 h_27.r (by decide) (fun h_30 => ?_) (fun h_30 => ?_)
    · have h_30 := h_27.f h_30
      refine wp_iconst (pc := 37) G dX5_readsSize_37 ?_
      refine wp_istore_n (L' := [(1, _), (0, _)]) (pc := 38) G dX5_readsSize_38 rfl (by decide) rfl ?_
      refine wp_aload_n (pc := 39) G dX5_readsSize_39 rfl 1 rfl ?_
      refine wp_iload_n (pc := 40) G dX5_readsSize_40 rfl 0 rfl ?_
      refine wp_if_eq (tgt := 59) (pc := 41) G dX5_readsSize_41 (by omega) (by decide) (fun h_41 => ?_) (fun h_41 => ?_)
      · refine wp_iconst (pc := 59) G dX5_readsSize_59 ?_
        refine wm_put_23 (pc := 60) G dX5_readsSize_60 fX5_302_4 ?_
        refine wp_aload_n (pc := 63) G dX5_readsSize_63 rfl 1 rfl ?_
        refine wp_dup (pc := 64) G dX5_readsSize_64 rfl ?_
        refine wm_get_22 (pc := 65) G dX5_readsSize_65 fX5_291_4 ?_
        refine wp_iload_n (pc := 68) G dX5_readsSize_68 rfl 0 rfl ?_
        refine wp_if_eq (tgt := 76) (pc := 69) G dX5_readsSize_69 (by omega) (by decide) (fun h_69 => ?_) (fun h_69 => ?_)
        · refine wp_iconst (pc := 76) G dX5_readsSize_76 ?_
          refine wp_iadd (pc := 77) G dX5_readsSize_77 ?_
          refine wm_put_22 (pc := 78) G dX5_readsSize_78 fX5_291_4 ?_
          refine wp_iload_n (pc := 81) G dX5_readsSize_81 rfl 0 rfl ?_
          first
            | exact absurd h_41 (by decide)
            | exact absurd h_69 (by decide)
            | exact wm_zret (pc := 82) G R9 dX5_readsSize_82 (by decide) ⟨(fr.rf.s1 (by decide)).s1 (by decide), isB.i1 ⟨h_8, h_30.1, h_30.2⟩, fun _ => ⟨rfl, rfl⟩, fun q => absurd q (by decide)⟩
            | exact wm_zret (pc := 82) G R9 dX5_readsSize_82 (by decide) ⟨(fr.rf.s1 (by decide)).s1 (by decide), isB.i0 (fun q => by first | exact h_30 ⟨q.2.1, q.2.2⟩ | (have := q.1; omega)), fun q => absurd q (by decide), fun _ => Int.add_zero _⟩
        · refine wp_iconst (pc := 72) G dX5_readsSize_72 ?_
          refine wp_goto (tgt := 77) (pc := 73) G dX5_readsSize_73 (by decide) ?_
          refine wp_iadd (pc := 77) G dX5_readsSize_77 ?_
          refine wm_put_22 (pc := 78) G dX5_readsSize_78 fX5_291_4 ?_
          refine wp_iload_n (pc := 81) G dX5_readsSize_81 rfl 0 rfl ?_
          first
            | exact absurd h_41 (by decide)
            | exact absurd h_69 (by decide)
            | exact wm_zret (pc := 82) G R9 dX5_readsSize_82 (by decide) ⟨(fr.rf.s1 (by decide)).s1 (by decide), isB.i1 ⟨h_8, h_30.1, h_30.2⟩, fun _ => ⟨rfl, rfl⟩, fun q => absurd q (by decide)⟩
            | exact wm_zret (pc := 82) G R9 dX5_readsSize_82 (by decide) ⟨(fr.rf.s1 (by decide)).s1 (by decide), isB.i0 (fun q => by first | exact h_30 ⟨q.2.1, q.2.2⟩ | (have := q.1; omega)), fun q => absurd q (by decide), fun _ => Int.add_zero _⟩
      · refine wp_aload_n (pc := 44) G dX5_readsSize_44 rfl 1 rfl ?_
        refine wm_get_20 (pc := 45) G dX5_readsSize_45 fX5_44_4 ?_
        refine wp_aload_n (pc := 48) G dX5_readsSize_48 rfl 1 rfl ?_
        refine wm_get_22 (pc := 49) G dX5_readsSize_49 fX5_291_4 ?_
        refine wm_ald_20 (pc := 52) G dX5_readsSize_52 (by omega) ?_
        refine wp_bipush (pc := 53) G dX5_readsSize_53 (by decide) ?_
        refine wp_isub (pc := 55) G dX5_readsSize_55 ?_
        refine wp_goto (tgt := 60) (pc := 56) G dX5_readsSize_56 (by decide) ?_
        refine wm_put_23 (pc := 60) G dX5_readsSize_60 fX5_302_4 ?_
        refine wp_aload_n (pc := 63) G dX5_readsSize_63 rfl 1 rfl ?_
        refine wp_dup (pc := 64) G dX5_readsSize_64 rfl ?_
        refine wm_get_22 (pc := 65) G dX5_readsSize_65 fX5_291_4 ?_
        refine wp_iload_n (pc := 68) G dX5_readsSize_68 rfl 0 rfl ?_
        refine wp_if_eq (tgt := 76) (pc := 69) G dX5_readsSize_69 (by omega) (by decide) (fun h_69 => ?_) (fun h_69 => ?_)
        · refine wp_iconst (pc := 76) G dX5_readsSize_76 ?_
          refine wp_iadd (pc := 77) G dX5_readsSize_77 ?_
          refine wm_put_22 (pc := 78) G dX5_readsSize_78 fX5_291_4 ?_
          refine wp_iload_n (pc := 81) G dX5_readsSize_81 rfl 0 rfl ?_
          first
            | exact absurd h_41 (by decide)
            | exact absurd h_69 (by decide)
            | exact wm_zret (pc := 82) G R9 dX5_readsSize_82 (by decide) ⟨(fr.rf.s1 (by decide)).s1 (by decide), isB.i1 ⟨h_8, h_30.1, h_30.2⟩, fun _ => ⟨rfl, rfl⟩, fun q => absurd q (by decide)⟩
            | exact wm_zret (pc := 82) G R9 dX5_readsSize_82 (by decide) ⟨(fr.rf.s1 (by decide)).s1 (by decide), isB.i0 (fun q => by first | exact h_30 ⟨q.2.1, q.2.2⟩ | (have := q.1; omega)), fun q => absurd q (by decide), fun _ => Int.add_zero _⟩
        · refine wp_iconst (pc := 72) G dX5_readsSize_72 ?_
          refine wp_goto (tgt := 77) (pc := 73) G dX5_readsSize_73 (by decide) ?_
          refine wp_iadd (pc := 77) G dX5_readsSize_77 ?_
          refine wm_put_22 (pc := 78) G dX5_readsSize_78 fX5_291_4 ?_
          refine wp_iload_n (pc := 81) G dX5_readsSize_81 rfl 0 rfl ?_
          first
            | exact absurd h_41 (by decide)
            | exact absurd h_69 (by decide)
            | exact wm_zret (pc := 82) G R9 dX5_readsSize_82 (by decide) ⟨(fr.rf.s1 (by decide)).s1 (by decide), isB.i1 ⟨h_8, h_30.1, h_30.2⟩, fun _ => ⟨rfl, rfl⟩, fun q => absurd q (by decide)⟩
            | exact wm_zret (pc := 82) G R9 dX5_readsSize_82 (by decide) ⟨(fr.rf.s1 (by decide)).s1 (by decide), isB.i0 (fun q => by first | exact h_30 ⟨q.2.1, q.2.2⟩ | (have := q.1; omega)), fun q => absurd q (by decide), fun _ => Int.add_zero _⟩
    · have h_30 := h_27.t h_30
      refine wp_iconst (pc := 33) G dX5_readsSize_33 ?_
      refine wp_goto (tgt := 38) (pc := 34) G dX5_readsSize_34 (by decide) ?_
      refine wp_istore_n (L' := [(1, _), (0, _)]) (pc := 38) G dX5_readsSize_38 rfl (by decide) rfl ?_
      refine wp_aload_n (pc := 39) G dX5_readsSize_39 rfl 1 rfl ?_
      refine wp_iload_n (pc := 40) G dX5_readsSize_40 rfl 0 rfl ?_
      refine wp_if_eq (tgt := 59) (pc := 41) G dX5_readsSize_41 (by omega) (by decide) (fun h_41 => ?_) (fun h_41 => ?_)
      · refine wp_iconst (pc := 59) G dX5_readsSize_59 ?_
        refine wm_put_23 (pc := 60) G dX5_readsSize_60 fX5_302_4 ?_
        refine wp_aload_n (pc := 63) G dX5_readsSize_63 rfl 1 rfl ?_
        refine wp_dup (pc := 64) G dX5_readsSize_64 rfl ?_
        refine wm_get_22 (pc := 65) G dX5_readsSize_65 fX5_291_4 ?_
        refine wp_iload_n (pc := 68) G dX5_readsSize_68 rfl 0 rfl ?_
        refine wp_if_eq (tgt := 76) (pc := 69) G dX5_readsSize_69 (by omega) (by decide) (fun h_69 => ?_) (fun h_69 => ?_)
        · refine wp_iconst (pc := 76) G dX5_readsSize_76 ?_
          refine wp_iadd (pc := 77) G dX5_readsSize_77 ?_
          refine wm_put_22 (pc := 78) G dX5_readsSize_78 fX5_291_4 ?_
          refine wp_iload_n (pc := 81) G dX5_readsSize_81 rfl 0 rfl ?_
          first
            | exact absurd h_41 (by decide)
            | exact absurd h_69 (by decide)
            | exact wm_zret (pc := 82) G R9 dX5_readsSize_82 (by decide) ⟨(fr.rf.s1 (by decide)).s1 (by decide), isB.i1 ⟨h_8, h_30.1, h_30.2⟩, fun _ => ⟨rfl, rfl⟩, fun q => absurd q (by decide)⟩
            | exact wm_zret (pc := 82) G R9 dX5_readsSize_82 (by decide) ⟨(fr.rf.s1 (by decide)).s1 (by decide), isB.i0 (fun q => by first | exact h_30 ⟨q.2.1, q.2.2⟩ | (have := q.1; omega)), fun q => absurd q (by decide), fun _ => Int.add_zero _⟩
        · refine wp_iconst (pc := 72) G dX5_readsSize_72 ?_
          refine wp_goto (tgt := 77) (pc := 73) G dX5_readsSize_73 (by decide) ?_
          refine wp_iadd (pc := 77) G dX5_readsSize_77 ?_
          refine wm_put_22 (pc := 78) G dX5_readsSize_78 fX5_291_4 ?_
          refine wp_iload_n (pc := 81) G dX5_readsSize_81 rfl 0 rfl ?_
          first
            | exact absurd h_41 (by decide)
            | exact absurd h_69 (by decide)
            | exact wm_zret (pc := 82) G R9 dX5_readsSize_82 (by decide) ⟨(fr.rf.s1 (by decide)).s1 (by decide), isB.i1 ⟨h_8, h_30.1, h_30.2⟩, fun _ => ⟨rfl, rfl⟩, fun q => absurd q (by decide)⟩
            | exact wm_zret (pc := 82) G R9 dX5_readsSize_82 (by decide) ⟨(fr.rf.s1 (by decide)).s1 (by decide), isB.i0 (fun q => by first | exact h_30 ⟨q.2.1, q.2.2⟩ | (have := q.1; omega)), fun q => absurd q (by decide), fun _ => Int.add_zero _⟩
      · refine wp_aload_n (pc := 44) G dX5_readsSize_44 rfl 1 rfl ?_
        refine wm_get_20 (pc := 45) G dX5_readsSize_45 fX5_44_4 ?_
        refine wp_aload_n (pc := 48) G dX5_readsSize_48 rfl 1 rfl ?_
        refine wm_get_22 (pc := 49) G dX5_readsSize_49 fX5_291_4 ?_
        refine wm_ald_20 (pc := 52) G dX5_readsSize_52 (by omega) ?_
        refine wp_bipush (pc := 53) G dX5_readsSize_53 (by decide) ?_
        refine wp_isub (pc := 55) G dX5_readsSize_55 ?_
        refine wp_goto (tgt := 60) (pc := 56) G dX5_readsSize_56 (by decide) ?_
        refine wm_put_23 (pc := 60) G dX5_readsSize_60 fX5_302_4 ?_
        refine wp_aload_n (pc := 63) G dX5_readsSize_63 rfl 1 rfl ?_
        refine wp_dup (pc := 64) G dX5_readsSize_64 rfl ?_
        refine wm_get_22 (pc := 65) G dX5_readsSize_65 fX5_291_4 ?_
        refine wp_iload_n (pc := 68) G dX5_readsSize_68 rfl 0 rfl ?_
        refine wp_if_eq (tgt := 76) (pc := 69) G dX5_readsSize_69 (by omega) (by decide) (fun h_69 => ?_) (fun h_69 => ?_)
        · refine wp_iconst (pc := 76) G dX5_readsSize_76 ?_
          refine wp_iadd (pc := 77) G dX5_readsSize_77 ?_
          refine wm_put_22 (pc := 78) G dX5_readsSize_78 fX5_291_4 ?_
          refine wp_iload_n (pc := 81) G dX5_readsSize_81 rfl 0 rfl ?_
          first
            | exact absurd h_41 (by decide)
            | exact absurd h_69 (by decide)
            | exact wm_zret (pc := 82) G R9 dX5_readsSize_82 (by decide) ⟨(fr.rf.s1 (by decide)).s1 (by decide), isB.i1 ⟨h_8, h_30.1, h_30.2⟩, fun _ => ⟨rfl, rfl⟩, fun q => absurd q (by decide)⟩
            | exact wm_zret (pc := 82) G R9 dX5_readsSize_82 (by decide) ⟨(fr.rf.s1 (by decide)).s1 (by decide), isB.i0 (fun q => by first | exact h_30 ⟨q.2.1, q.2.2⟩ | (have := q.1; omega)), fun q => absurd q (by decide), fun _ => Int.add_zero _⟩
        · refine wp_iconst (pc := 72) G dX5_readsSize_72 ?_
          refine wp_goto (tgt := 77) (pc := 73) G dX5_readsSize_73 (by decide) ?_
          refine wp_iadd (pc := 77) G dX5_readsSize_77 ?_
          refine wm_put_22 (pc := 78) G dX5_readsSize_78 fX5_291_4 ?_
          refine wp_iload_n (pc := 81) G dX5_readsSize_81 rfl 0 rfl ?_
          first
            | exact absurd h_41 (by decide)
            | exact absurd h_69 (by decide)
            | exact wm_zret (pc := 82) G R9 dX5_readsSize_82 (by decide) ⟨(fr.rf.s1 (by decide)).s1 (by decide), isB.i1 ⟨h_8, h_30.1, h_30.2⟩, fun _ => ⟨rfl, rfl⟩, fun q => absurd q (by decide)⟩
            | exact wm_zret (pc := 82) G R9 dX5_readsSize_82 (by decide) ⟨(fr.rf.s1 (by decide)).s1 (by decide), isB.i0 (fun q => by first | exact h_30 ⟨q.2.1, q.2.2⟩ | (have := q.1; omega)), fun q => absurd q (by decide), fun _ => Int.add_zero _⟩
set_option maxHeartbeats 4000000 in
theorem ct_readsNumber {g : GV} (hg : GOk g) {ad : Nat → Nat} {M : Nat → Int → Int} (hX : okX M) : CMi g ad yX5_readsNumber cX5_readsNumber 2 2 .boolean [] M (fun z M' => (z = 0 ∨ z = 1) ∧ fr [22, 23] M M' ∧ nuP (M 20) (M 21 0) (M 22 0) (M' 22 0) (M' 23 0) (z = 1)) := by
  refine wm_ofi hg (by decide +kernel) (Nat.le_of_ble_eq_true rfl) (fun F G R9 => ?_)
  have G : FxOk g F cX5_readsNumber RX5 2 2 := G
  refine wp_loc (L' := [(0, _)]) rfl ?_
  have hX0 := hX
  obtain ⟨hn9, ht9, hp9⟩ := hX
  have loop : ∀ (n : Nat) (k : Int) (M1 : Nat → Int → Int), (0 ≤ k ∧ k ≤ 2) → (3 ≤ k + n) → (fr [22, 23] M M1) → (M1 22 0 = M 22 0 + k) → (1 ≤ k → fig (M 20) (M 21 0) (M 22 0)) → (2 ≤ k → fig (M 20) (M 21 0) (M 22 0 + 1)) → ((k = 0 → M1 23 0 = 0) ∧ (k = 1 → M1 23 0 = M 20 (M 22 0) - 48) ∧ (k = 2 → M1 23 0 = 10 * (M 20 (M 22 0) - 48) + (M 20 (M 22 0 + 1) - 48))) → Wp g F [MB g ad M1] 0 0 10 [(0, .ref (ad 25)), (1, iV (M 22 0))] [] := by
    intro n
    induction n with
    | zero =>
      intro k M1 hk hn hf h22 hk1 hk2 h23
      exfalso
      omega
    | succ n ih =>
      intro k M1 hk hn hf h22 hk1 hk2 h23
      have e20 : M1 20 = M 20 := hf 20 (by decide)
      have e21 : M1 21 = M 21 := hf 21 (by decide)
      have hb1 : 1 ≤ k → M 22 0 < M 21 0 := fun q => (hk1 q).1
      have hb2 : 2 ≤ k → M 22 0 + 1 < M 21 0 := fun q => (hk2 q).1
      have hX1 : okX M1 := ⟨by rw [e21]; exact hn9, by rw [e20]; exact ht9, by rw [e21, h22]; omega⟩
      refine wp_aload_n (pc := 10) G dX5_readsNumber_10 rfl 0 rfl ?_
      refine wm_calli0 (pc := 11) G dX5_readsNumber_11 kX5_305 (ct_isFigure hg hX1) (by decide) (by decide) (Nat.le_of_ble_eq_true rfl) (fun z_11 M_11 h_11 => ?_)
      obtain ⟨rfl, h_11⟩ := h_11
      refine wp_if_eq (tgt := 64) (pc := 14) G dX5_readsNumber_14 h_11.r (by decide) (fun h_14 => ?_) (fun h_14 => ?_)
      · have h_14 := h_11.f h_14
        refine wp_aload_n (pc := 64) G dX5_readsNumber_64 rfl 0 rfl ?_
        refine wm_get_22 (pc := 65) G dX5_readsNumber_65 fX5_291_4 ?_
        refine wp_iload_n (pc := 68) G dX5_readsNumber_68 rfl 1 rfl ?_
        refine wp_icmp_le (tgt := 83) (pc := 69) G dX5_readsNumber_69 (by omega) (by omega) (by decide) (fun h_69 => ?_) (fun h_69 => ?_)
        · refine wp_iconst (pc := 83) G dX5_readsNumber_83 ?_
          have hcc : k = 0 ∨ k = 1 ∨ k = 2 := by omega
          have nfg : ∀ p, ¬ fig (M1 20) (M1 21 0) p → ¬ fig (M 20) (M 21 0) p := fun p q => by rw [← e20, ← e21]; exact q
          have yfg : ∀ p, fig (M1 20) (M1 21 0) p → fig (M 20) (M 21 0) p := fun p q => by rw [← e20, ← e21]; exact q
          first
            | exact absurd h_76 h_14
            | (have h9 := nfg _ (show ¬ fig (M1 20) (M1 21 0) (M1 22 0) from h_76)
               have hk0 : k ≠ 0 := by omega
               rw [h22] at h9
               refine wm_zret (pc := 84) G R9 dX5_readsNumber_84 (by decide) ⟨by decide, hf, ?_⟩
               rw [h22]
               rcases hcc with e | e | e
               · exact absurd e hk0
               · subst e
                 exact Or.inr (Or.inl ⟨hk1 (by omega), h9, rfl, h23.2.1 rfl, rfl⟩)
               · subst e
                 exact Or.inr (Or.inr (Or.inl ⟨hk1 (by omega), hk2 (by omega), h9, rfl, h23.2.2 rfl, rfl⟩)))
            | (have h9 := nfg _ (show ¬ fig (M1 20) (M1 21 0) (M1 22 0) from h_14)
               have hk0 : k = 0 := by omega
               subst hk0
               rw [h22, Int.add_zero] at h9
               refine wm_zret (pc := 84) G R9 dX5_readsNumber_84 (by decide) ⟨by decide, hf, ?_⟩
               rw [h22]
               exact Or.inl ⟨h9, Int.add_zero _, h23.1 rfl, by decide⟩)
            | (have h9 := yfg _ (show fig (M1 20) (M1 21 0) (M1 22 0) from h_76)
               have e : k = 2 := by omega
               rw [h22] at h9
               subst e
               refine wm_zret (pc := 84) G R9 dX5_readsNumber_84 (by decide) ⟨by decide, hf, ?_⟩
               rw [h22]
               exact Or.inr (Or.inr (Or.inr ⟨hk1 (by omega), hk2 (by omega), h9, rfl, h23.2.2 rfl, by decide⟩)))
            | (exfalso; omega)
        · refine wp_aload_n (pc := 72) G dX5_readsNumber_72 rfl 0 rfl ?_
          refine wm_calli0 (pc := 73) G dX5_readsNumber_73 kX5_305 (ct_isFigure hg hX1) (by decide) (by decide) (Nat.le_of_ble_eq_true rfl) (fun z_73 M_73 h_73 => ?_)
          obtain ⟨rfl, h_73⟩ := h_73
          refine wp_if_ne (tgt := 83) (pc := 76) G dX5_readsNumber_76 h_73.r (by decide) (fun h_76 => ?_) (fun h_76 => ?_)
          · have h_76 := h_73.t h_76
            refine wp_iconst (pc := 83) G dX5_readsNumber_83 ?_
            have hcc : k = 0 ∨ k = 1 ∨ k = 2 := by omega
            have nfg : ∀ p, ¬ fig (M1 20) (M1 21 0) p → ¬ fig (M 20) (M 21 0) p := fun p q => by rw [← e20, ← e21]; exact q
            have yfg : ∀ p, fig (M1 20) (M1 21 0) p → fig (M 20) (M 21 0) p := fun p q => by rw [← e20, ← e21]; exact q
            first
              | exact absurd h_76 h_14
              | (have h9 := nfg _ (show ¬ fig (M1 20) (M1 21 0) (M1 22 0) from h_76)
                 have hk0 : k ≠ 0 := by omega
                 rw [h22] at h9
                 refine wm_zret (pc := 84) G R9 dX5_readsNumber_84 (by decide) ⟨by decide, hf, ?_⟩
                 rw [h22]
                 rcases hcc with e | e | e
                 · exact absurd e hk0
                 · subst e
                   exact Or.inr (Or.inl ⟨hk1 (by omega), h9, rfl, h23.2.1 rfl, rfl⟩)
                 · subst e
                   exact Or.inr (Or.inr (Or.inl ⟨hk1 (by omega), hk2 (by omega), h9, rfl, h23.2.2 rfl, rfl⟩)))
              | (have h9 := nfg _ (show ¬ fig (M1 20) (M1 21 0) (M1 22 0) from h_14)
                 have hk0 : k = 0 := by omega
                 subst hk0
                 rw [h22, Int.add_zero] at h9
                 refine wm_zret (pc := 84) G R9 dX5_readsNumber_84 (by decide) ⟨by decide, hf, ?_⟩
                 rw [h22]
                 exact Or.inl ⟨h9, Int.add_zero _, h23.1 rfl, by decide⟩)
              | (have h9 := yfg _ (show fig (M1 20) (M1 21 0) (M1 22 0) from h_76)
                 have e : k = 2 := by omega
                 rw [h22] at h9
                 subst e
                 refine wm_zret (pc := 84) G R9 dX5_readsNumber_84 (by decide) ⟨by decide, hf, ?_⟩
                 rw [h22]
                 exact Or.inr (Or.inr (Or.inr ⟨hk1 (by omega), hk2 (by omega), h9, rfl, h23.2.2 rfl, by decide⟩)))
              | (exfalso; omega)
          · have h_76 := h_73.f h_76
            refine wp_iconst (pc := 79) G dX5_readsNumber_79 ?_
            refine wp_goto (tgt := 84) (pc := 80) G dX5_readsNumber_80 (by decide) ?_
            have hcc : k = 0 ∨ k = 1 ∨ k = 2 := by omega
            have nfg : ∀ p, ¬ fig (M1 20) (M1 21 0) p → ¬ fig (M 20) (M 21 0) p := fun p q => by rw [← e20, ← e21]; exact q
            have yfg : ∀ p, fig (M1 20) (M1 21 0) p → fig (M 20) (M 21 0) p := fun p q => by rw [← e20, ← e21]; exact q
            first
              | exact absurd h_76 h_14
              | (have h9 := nfg _ (show ¬ fig (M1 20) (M1 21 0) (M1 22 0) from h_76)
                 have hk0 : k ≠ 0 := by omega
                 rw [h22] at h9
                 refine wm_zret (pc := 84) G R9 dX5_readsNumber_84 (by decide) ⟨by decide, hf, ?_⟩
                 rw [h22]
                 rcases hcc with e | e | e
                 · exact absurd e hk0
                 · subst e
                   exact Or.inr (Or.inl ⟨hk1 (by omega), h9, rfl, h23.2.1 rfl, rfl⟩)
                 · subst e
                   exact Or.inr (Or.inr (Or.inl ⟨hk1 (by omega), hk2 (by omega), h9, rfl, h23.2.2 rfl, rfl⟩)))
              | (have h9 := nfg _ (show ¬ fig (M1 20) (M1 21 0) (M1 22 0) from h_14)
                 have hk0 : k = 0 := by omega
                 subst hk0
                 rw [h22, Int.add_zero] at h9
                 refine wm_zret (pc := 84) G R9 dX5_readsNumber_84 (by decide) ⟨by decide, hf, ?_⟩
                 rw [h22]
                 exact Or.inl ⟨h9, Int.add_zero _, h23.1 rfl, by decide⟩)
              | (have h9 := yfg _ (show fig (M1 20) (M1 21 0) (M1 22 0) from h_76)
                 have e : k = 2 := by omega
                 rw [h22] at h9
                 subst e
                 refine wm_zret (pc := 84) G R9 dX5_readsNumber_84 (by decide) ⟨by decide, hf, ?_⟩
                 rw [h22]
                 exact Or.inr (Or.inr (Or.inr ⟨hk1 (by omega), hk2 (by omega), h9, rfl, h23.2.2 rfl, by decide⟩)))
              | (exfalso; omega)
      · have h_14 := h_11.t h_14
        refine wp_aload_n (pc := 17) G dX5_readsNumber_17 rfl 0 rfl ?_
        refine wm_get_22 (pc := 18) G dX5_readsNumber_18 fX5_291_4 ?_
        refine wp_iload_n (pc := 21) G dX5_readsNumber_21 rfl 1 rfl ?_
        refine wp_iconst (pc := 22) G dX5_readsNumber_22 ?_
        refine wp_iadd (pc := 23) G dX5_readsNumber_23 ?_
        have hlt : M1 22 0 < M 21 0 := by rw [← e21]; exact h_14.1
        refine wp_icmp_ge (tgt := 64) (pc := 24) G dX5_readsNumber_24 (by omega) (by omega) (by decide) (fun h_24 => ?_) (fun h_24 => ?_)
        · refine wp_aload_n (pc := 64) G dX5_readsNumber_64 rfl 0 rfl ?_
          refine wm_get_22 (pc := 65) G dX5_readsNumber_65 fX5_291_4 ?_
          refine wp_iload_n (pc := 68) G dX5_readsNumber_68 rfl 1 rfl ?_
          refine wp_icmp_le (tgt := 83) (pc := 69) G dX5_readsNumber_69 (by omega) (by omega) (by decide) (fun h_69 => ?_) (fun h_69 => ?_)
          · refine wp_iconst (pc := 83) G dX5_readsNumber_83 ?_
            have hcc : k = 0 ∨ k = 1 ∨ k = 2 := by omega
            have nfg : ∀ p, ¬ fig (M1 20) (M1 21 0) p → ¬ fig (M 20) (M 21 0) p := fun p q => by rw [← e20, ← e21]; exact q
            have yfg : ∀ p, fig (M1 20) (M1 21 0) p → fig (M 20) (M 21 0) p := fun p q => by rw [← e20, ← e21]; exact q
            first
              | exact absurd h_76 h_14
              | (have h9 := nfg _ (show ¬ fig (M1 20) (M1 21 0) (M1 22 0) from h_76)
                 have hk0 : k ≠ 0 := by omega
                 rw [h22] at h9
                 refine wm_zret (pc := 84) G R9 dX5_readsNumber_84 (by decide) ⟨by decide, hf, ?_⟩
                 rw [h22]
                 rcases hcc with e | e | e
                 · exact absurd e hk0
                 · subst e
                   exact Or.inr (Or.inl ⟨hk1 (by omega), h9, rfl, h23.2.1 rfl, rfl⟩)
                 · subst e
                   exact Or.inr (Or.inr (Or.inl ⟨hk1 (by omega), hk2 (by omega), h9, rfl, h23.2.2 rfl, rfl⟩)))
              | (have h9 := nfg _ (show ¬ fig (M1 20) (M1 21 0) (M1 22 0) from h_14)
                 have hk0 : k = 0 := by omega
                 subst hk0
                 rw [h22, Int.add_zero] at h9
                 refine wm_zret (pc := 84) G R9 dX5_readsNumber_84 (by decide) ⟨by decide, hf, ?_⟩
                 rw [h22]
                 exact Or.inl ⟨h9, Int.add_zero _, h23.1 rfl, by decide⟩)
              | (have h9 := yfg _ (show fig (M1 20) (M1 21 0) (M1 22 0) from h_76)
                 have e : k = 2 := by omega
                 rw [h22] at h9
                 subst e
                 refine wm_zret (pc := 84) G R9 dX5_readsNumber_84 (by decide) ⟨by decide, hf, ?_⟩
                 rw [h22]
                 exact Or.inr (Or.inr (Or.inr ⟨hk1 (by omega), hk2 (by omega), h9, rfl, h23.2.2 rfl, by decide⟩)))
              | (exfalso; omega)
          · refine wp_aload_n (pc := 72) G dX5_readsNumber_72 rfl 0 rfl ?_
            refine wm_calli0 (pc := 73) G dX5_readsNumber_73 kX5_305 (ct_isFigure hg hX1) (by decide) (by decide) (Nat.le_of_ble_eq_true rfl) (fun z_73 M_73 h_73 => ?_)
            obtain ⟨rfl, h_73⟩ := h_73
            refine wp_if_ne (tgt := 83) (pc := 76) G dX5_readsNumber_76 h_73.r (by decide) (fun h_76 => ?_) (fun h_76 => ?_)
            · have h_76 := h_73.t h_76
              refine wp_iconst (pc := 83) G dX5_readsNumber_83 ?_
              have hcc : k = 0 ∨ k = 1 ∨ k = 2 := by omega
              have nfg : ∀ p, ¬ fig (M1 20) (M1 21 0) p → ¬ fig (M 20) (M 21 0) p := fun p q => by rw [← e20, ← e21]; exact q
              have yfg : ∀ p, fig (M1 20) (M1 21 0) p → fig (M 20) (M 21 0) p := fun p q => by rw [← e20, ← e21]; exact q
              first
                | exact absurd h_76 h_14
                | (have h9 := nfg _ (show ¬ fig (M1 20) (M1 21 0) (M1 22 0) from h_76)
                   have hk0 : k ≠ 0 := by omega
                   rw [h22] at h9
                   refine wm_zret (pc := 84) G R9 dX5_readsNumber_84 (by decide) ⟨by decide, hf, ?_⟩
                   rw [h22]
                   rcases hcc with e | e | e
                   · exact absurd e hk0
                   · subst e
                     exact Or.inr (Or.inl ⟨hk1 (by omega), h9, rfl, h23.2.1 rfl, rfl⟩)
                   · subst e
                     exact Or.inr (Or.inr (Or.inl ⟨hk1 (by omega), hk2 (by omega), h9, rfl, h23.2.2 rfl, rfl⟩)))
                | (have h9 := nfg _ (show ¬ fig (M1 20) (M1 21 0) (M1 22 0) from h_14)
                   have hk0 : k = 0 := by omega
                   subst hk0
                   rw [h22, Int.add_zero] at h9
                   refine wm_zret (pc := 84) G R9 dX5_readsNumber_84 (by decide) ⟨by decide, hf, ?_⟩
                   rw [h22]
                   exact Or.inl ⟨h9, Int.add_zero _, h23.1 rfl, by decide⟩)
                | (have h9 := yfg _ (show fig (M1 20) (M1 21 0) (M1 22 0) from h_76)
                   have e : k = 2 := by omega
                   rw [h22] at h9
                   subst e
                   refine wm_zret (pc := 84) G R9 dX5_readsNumber_84 (by decide) ⟨by decide, hf, ?_⟩
                   rw [h22]
                   exact Or.inr (Or.inr (Or.inr ⟨hk1 (by omega), hk2 (by omega), h9, rfl, h23.2.2 rfl, by decide⟩)))
                | (exfalso; omega)
            · have h_76 := h_73.f h_76
              refine wp_iconst (pc := 79) G dX5_readsNumber_79 ?_
              refine wp_goto (tgt := 84) (pc := 80) G dX5_readsNumber_80 (by decide) ?_
              have hcc : k = 0 ∨ k = 1 ∨ k = 2 := by omega
              have nfg : ∀ p, ¬ fig (M1 20) (M1 21 0) p → ¬ fig (M 20) (M 21 0) p := fun p q => by rw [← e20, ← e21]; exact q
              have yfg : ∀ p, fig (M1 20) (M1 21 0) p → fig (M 20) (M 21 0) p := fun p q => by rw [← e20, ← e21]; exact q
              first
                | exact absurd h_76 h_14
                | (have h9 := nfg _ (show ¬ fig (M1 20) (M1 21 0) (M1 22 0) from h_76)
                   have hk0 : k ≠ 0 := by omega
                   rw [h22] at h9
                   refine wm_zret (pc := 84) G R9 dX5_readsNumber_84 (by decide) ⟨by decide, hf, ?_⟩
                   rw [h22]
                   rcases hcc with e | e | e
                   · exact absurd e hk0
                   · subst e
                     exact Or.inr (Or.inl ⟨hk1 (by omega), h9, rfl, h23.2.1 rfl, rfl⟩)
                   · subst e
                     exact Or.inr (Or.inr (Or.inl ⟨hk1 (by omega), hk2 (by omega), h9, rfl, h23.2.2 rfl, rfl⟩)))
                | (have h9 := nfg _ (show ¬ fig (M1 20) (M1 21 0) (M1 22 0) from h_14)
                   have hk0 : k = 0 := by omega
                   subst hk0
                   rw [h22, Int.add_zero] at h9
                   refine wm_zret (pc := 84) G R9 dX5_readsNumber_84 (by decide) ⟨by decide, hf, ?_⟩
                   rw [h22]
                   exact Or.inl ⟨h9, Int.add_zero _, h23.1 rfl, by decide⟩)
                | (have h9 := yfg _ (show fig (M1 20) (M1 21 0) (M1 22 0) from h_76)
                   have e : k = 2 := by omega
                   rw [h22] at h9
                   subst e
                   refine wm_zret (pc := 84) G R9 dX5_readsNumber_84 (by decide) ⟨by decide, hf, ?_⟩
                   rw [h22]
                   exact Or.inr (Or.inr (Or.inr ⟨hk1 (by omega), hk2 (by omega), h9, rfl, h23.2.2 rfl, by decide⟩)))
                | (exfalso; omega)
        · refine wp_aload_n (pc := 27) G dX5_readsNumber_27 rfl 0 rfl ?_
          refine wp_bipush (pc := 28) G dX5_readsNumber_28 (by decide) ?_
          refine wp_aload_n (pc := 30) G dX5_readsNumber_30 rfl 0 rfl ?_
          refine wm_get_23 (pc := 31) G dX5_readsNumber_31 fX5_302_4 ?_
          refine wp_imul (pc := 34) G dX5_readsNumber_34 ?_
          refine wp_aload_n (pc := 35) G dX5_readsNumber_35 rfl 0 rfl ?_
          refine wm_get_20 (pc := 36) G dX5_readsNumber_36 fX5_44_4 ?_
          refine wp_aload_n (pc := 39) G dX5_readsNumber_39 rfl 0 rfl ?_
          refine wm_get_22 (pc := 40) G dX5_readsNumber_40 fX5_291_4 ?_
          refine wm_ald_20 (pc := 43) G dX5_readsNumber_43 (by omega) ?_
          refine wp_iadd (pc := 44) G dX5_readsNumber_44 ?_
          refine wp_bipush (pc := 45) G dX5_readsNumber_45 (by decide) ?_
          refine wp_isub (pc := 47) G dX5_readsNumber_47 ?_
          refine wm_put_23 (pc := 48) G dX5_readsNumber_48 fX5_302_4 ?_
          refine wp_aload_n (pc := 51) G dX5_readsNumber_51 rfl 0 rfl ?_
          refine wp_dup (pc := 52) G dX5_readsNumber_52 rfl ?_
          refine wm_get_22 (pc := 53) G dX5_readsNumber_53 fX5_291_4 ?_
          refine wp_iconst (pc := 56) G dX5_readsNumber_56 ?_
          refine wp_iadd (pc := 57) G dX5_readsNumber_57 ?_
          refine wm_put_22 (pc := 58) G dX5_readsNumber_58 fX5_291_4 ?_
          refine wp_goto (tgt := 10) (pc := 61) G dX5_readsNumber_61 (by decide) ?_
          have hfk : fig (M 20) (M 21 0) (M 22 0 + k) := by rw [← h22, ← e20, ← e21]; exact h_14
          refine ih (k + 1) _ (by omega) (by omega) ((hf.s1 (by decide)).s1 (by decide)) (by show M1 22 0 + 1 = _; omega) (fun _ => ?_) (fun q => ?_) ⟨fun q => by omega, fun q => ?_, fun q => ?_⟩
          · by_cases e : k = 0
            · rw [e, Int.add_zero] at hfk; exact hfk
            · exact hk1 (by omega)
          · rw [show k = 1 by omega] at hfk; exact hfk
          · show 10 * M1 23 0 + M1 20 (M1 22 0) - 48 = _
            rw [h23.1 (by omega), e20, h22, show k = 0 by omega, Int.add_zero]; omega
          · show 10 * M1 23 0 + M1 20 (M1 22 0) - 48 = _
            rw [h23.2.1 (by omega), e20, h22, show k = 1 by omega]; omega
  refine wp_aload_n (pc := 0) G dX5_readsNumber_0 rfl 0 rfl ?_
  refine wm_get_22 (pc := 1) G dX5_readsNumber_1 fX5_291_4 ?_
  refine wp_istore_n (L' := [(1, _), (0, _)]) (pc := 4) G dX5_readsNumber_4 rfl (by decide) rfl ?_
  refine wp_aload_n (pc := 5) G dX5_readsNumber_5 rfl 1 rfl ?_
  refine wp_iconst (pc := 6) G dX5_readsNumber_6 ?_
  refine wm_put_23 (pc := 7) G dX5_readsNumber_7 fX5_302_4 ?_
  refine wp_sub (L' := [(0, _), (1, _)]) [1, 0] rfl ?_
  exact loop 3 0 _ (by omega) (by omega) (fr.rf.s1 (by decide)) (Int.add_zero _).symm (fun q => by omega) (fun q => by omega) ⟨fun _ => rfl, fun q => by omega, fun q => by omega⟩
