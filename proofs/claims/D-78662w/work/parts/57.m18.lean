/-! THE MODEL: cellValue, lakeValue, levelPart, and the calls that ask -/
set_option maxRecDepth 100000
set_option maxHeartbeats 4000000 in
theorem ct_cellValue {g : GV} (hg : GOk g) {ad : Nat → Nat} {M : Nat → Int → Int} (hA : okA (M 0)) (hW : waterZ (M 0) ≤ 4000000) {c w : Int} (hc : isC (M 0) c) (hw : 0 ≤ w ∧ w ≤ 5) : CMi g ad yX5_cellValue cX5_cellValue 4 3 .int [iV c, iV w] M (fun z M' => fr [6, 7, 8, 11, 12, 13, 14] M M' ∧ z = cellZ (M 0) c w) := by
  refine wm_ofi hg (by decide +kernel) (Nat.le_of_ble_eq_true rfl) (fun F G R9 => ?_)
  have G : FxOk g F cX5_cellValue RX5 4 3 := G
  refine wp_loc (L' := [(0, _), (1, _), (2, _)]) rfl ?_
  have hK := hA.K hW
  have hc2 := hc.lt hA.L
  have hlr := lakeZ_r (az := M 0) c
  refine wp_aload_n (pc := 0) G dX5_cellValue_0 rfl 0 rfl ?_
  refine wp_iload_n (pc := 1) G dX5_cellValue_1 rfl 1 rfl ?_
  refine wm_calli1 (pc := 2) G dX5_cellValue_2 kX5_133 (ct_lakeOf hg hK hc2) (by decide) (by decide) (Nat.le_of_ble_eq_true rfl) (fun z_2 M_2 h_2 => ?_)
  obtain ⟨rfl, h_2⟩ := h_2
  subst h_2
  refine wp_istore_n (L' := [(3, _), (0, _), (1, _), (2, _)]) (pc := 5) G dX5_cellValue_5 rfl (by decide) rfl ?_
  refine wp_iload_n (pc := 6) G dX5_cellValue_6 rfl 3 rfl ?_
  rcases (show w = 0 ∨ w = 1 ∨ w = 2 ∨ w = 3 ∨ w = 4 ∨ 4 < w by omega) with rfl | rfl | rfl | rfl | rfl | hdf
  · refine wp_tsIn (pc := 7) (off := 33) (tgt := 40) G dX5_cellValue_7 (by omega) (by omega) rfl (by decide) ?_
    refine wp_aload_n (pc := 40) G dX5_cellValue_40 rfl 1 rfl ?_
    refine wp_iload_n (pc := 41) G dX5_cellValue_41 rfl 2 rfl ?_
    refine wm_calli1 (pc := 42) G dX5_cellValue_42 kX5_87 (ct_height hg (by omega)) (by decide) (by decide) (Nat.le_of_ble_eq_true rfl) (fun z_42 M_42 h_42 => ?_)
    obtain ⟨rfl, h_42⟩ := h_42
    subst h_42
    exact wm_iret (pc := 45) G R9 dX5_cellValue_45 ⟨fr.rf, rfl⟩
  · refine wp_tsIn (pc := 7) (off := 39) (tgt := 46) G dX5_cellValue_7 (by omega) (by omega) rfl (by decide) ?_
    refine wp_aload_n (pc := 46) G dX5_cellValue_46 rfl 1 rfl ?_
    refine wm_get_0 (pc := 47) G dX5_cellValue_47 fX5_7_4 ?_
    refine wp_iconst (pc := 50) G dX5_cellValue_50 ?_
    refine wm_ald_0 (pc := 51) G dX5_cellValue_51 (by omega) ?_
    refine wp_iload_n (pc := 52) G dX5_cellValue_52 rfl 2 rfl ?_
    refine ws_calli2 (pc := 53) G dX5_cellValue_53 kX5_91 (ct_has hg (by have := hA.L.dr; unfold okS at this; omega) (by omega)) (by decide) (by decide) (Nat.le_of_ble_eq_true rfl) (fun z_53 h_53 => ?_)
    refine wp_if_eq (tgt := 63) (pc := 56) G dX5_cellValue_56 h_53.r (by decide) (fun h_56 => ?_) (fun h_56 => ?_)
    · have h_56 := h_53.f h_56
      refine wp_iconst (pc := 63) G dX5_cellValue_63 ?_
      first
        | exact wm_iret (pc := 64) G R9 dX5_cellValue_64 ⟨fr.rf, (isB.i1 h_56).I⟩
        | exact wm_iret (pc := 64) G R9 dX5_cellValue_64 ⟨fr.rf, (isB.i0 h_56).I⟩
    · have h_56 := h_53.t h_56
      refine wp_iconst (pc := 59) G dX5_cellValue_59 ?_
      refine wp_goto (tgt := 64) (pc := 60) G dX5_cellValue_60 (by decide) ?_
      first
        | exact wm_iret (pc := 64) G R9 dX5_cellValue_64 ⟨fr.rf, (isB.i1 h_56).I⟩
        | exact wm_iret (pc := 64) G R9 dX5_cellValue_64 ⟨fr.rf, (isB.i0 h_56).I⟩
  · refine wp_tsIn (pc := 7) (off := 58) (tgt := 65) G dX5_cellValue_7 (by omega) (by omega) rfl (by decide) ?_
    refine wp_aload_n (pc := 65) G dX5_cellValue_65 rfl 1 rfl ?_
    refine wm_get_0 (pc := 66) G dX5_cellValue_66 fX5_7_4 ?_
    refine wp_bipush (pc := 69) G dX5_cellValue_69 (by decide) ?_
    refine wp_iload_n (pc := 71) G dX5_cellValue_71 rfl 2 rfl ?_
    refine wp_iadd (pc := 72) G dX5_cellValue_72 ?_
    refine wm_ald_0 (pc := 73) G dX5_cellValue_73 (by omega) ?_
    refine wp_l2i (pc := 74) G dX5_cellValue_74 ?_
    exact wm_iret (pc := 75) G R9 dX5_cellValue_75 ⟨fr.rf, rfl⟩
  · refine wp_tsIn (pc := 7) (off := 69) (tgt := 76) G dX5_cellValue_7 (by omega) (by omega) rfl (by decide) ?_
    refine wp_aload_n (pc := 76) G dX5_cellValue_76 rfl 1 rfl ?_
    refine wm_callv0 (pc := 77) G dX5_cellValue_77 kX5_152 (ct_orders hg hA.L hK) (by decide) (by decide) (Nat.le_of_ble_eq_true rfl) (fun M_77 h_77 => ?_)
    refine wp_iload_n (pc := 80) G dX5_cellValue_80 rfl 0 rfl ?_
    refine wp_iconst (pc := 81) G dX5_cellValue_81 ?_
    refine wp_icmp_ne (tgt := 89) (pc := 82) G dX5_cellValue_82 (by omega) (by omega) (by decide) (fun h_82 => ?_) (fun h_82 => ?_)
    · obtain ⟨n9, hn9, hk9⟩ := ordK_s hA (k := lakeZ (M 0) c) ((lakeZ_p c).elim (fun e => absurd e h_82) (fun e => ⟨e.1, e.2.1⟩))
      have hnL := nL_r hA.L
      refine wp_aload_n (pc := 89) G dX5_cellValue_89 rfl 1 rfl ?_
      refine wp_iload_n (pc := 90) G dX5_cellValue_90 rfl 0 rfl ?_
      refine wm_calli1 (pc := 91) G dX5_cellValue_91 kX5_211 (ct_numberOf hg (i := n9) ⟨hn9.1, by omega⟩ (by rw [ordK_e hA.L h_77 hn9]; exact hk9) (fun j hj => by rw [ordK_e hA.L h_77 (n := j) ⟨hj.1, by omega⟩]; have := (ordK_k hA.L (n := j) ⟨hj.1, by omega⟩).1; omega)) (by decide) (by decide) (Nat.le_of_ble_eq_true rfl) (fun z_91 M_91 h_91 => ?_)
      obtain ⟨rfl, e91, e92, -⟩ := h_91
      have ez9 : z_91 = n9 := ordK_i hA.L ⟨e91.1, by omega⟩ hn9 (by rw [← ordK_e hA.L h_77 (n := z_91) ⟨e91.1, by omega⟩, e92]; exact hk9.symm)
      first
        | exact wm_iret (pc := 94) G R9 dX5_cellValue_94 ⟨h_77.1.up (by decide), (if_pos h_82).symm⟩
        | exact wm_iret (pc := 94) G R9 dX5_cellValue_94 ⟨h_77.1.up (by decide), by show z_91 = noZ (M 0) (lakeZ (M 0) c); rw [noZ_e hA.L hn9 hk9]; exact ez9⟩
    · refine wp_iconst (pc := 85) G dX5_cellValue_85 ?_
      refine wp_goto (tgt := 94) (pc := 86) G dX5_cellValue_86 (by decide) ?_
      first
        | exact wm_iret (pc := 94) G R9 dX5_cellValue_94 ⟨h_77.1.up (by decide), (if_pos h_82).symm⟩
        | exact wm_iret (pc := 94) G R9 dX5_cellValue_94 ⟨h_77.1.up (by decide), by show z_91 = noZ (M 0) (lakeZ (M 0) c); rw [noZ_e hA.L hn9 hk9]; exact ez9⟩
  · refine wp_tsIn (pc := 7) (off := 88) (tgt := 95) G dX5_cellValue_7 (by omega) (by omega) rfl (by decide) ?_
    refine wp_aload_n (pc := 95) G dX5_cellValue_95 rfl 1 rfl ?_
    refine wp_iload_n (pc := 96) G dX5_cellValue_96 rfl 2 rfl ?_
    refine wm_calli1 (pc := 97) G dX5_cellValue_97 kX5_165 (ct_isWet hg hA.L hK hc) (by decide) (by decide) (Nat.le_of_ble_eq_true rfl) (fun z_97 M_97 h_97 => ?_)
    obtain ⟨h97f, h97b⟩ := h_97
    refine wp_if_eq (tgt := 107) (pc := 100) G dX5_cellValue_100 h97b.r (by decide) (fun h_100 => ?_) (fun h_100 => ?_)
    · have h_100 := h97b.f h_100
      refine wp_iconst (pc := 107) G dX5_cellValue_107 ?_
      first
        | exact wm_iret (pc := 108) G R9 dX5_cellValue_108 ⟨h97f.up (by decide), (isB.i1 h_100).I⟩
        | exact wm_iret (pc := 108) G R9 dX5_cellValue_108 ⟨h97f.up (by decide), (isB.i0 h_100).I⟩
    · have h_100 := h97b.t h_100
      refine wp_iconst (pc := 103) G dX5_cellValue_103 ?_
      refine wp_goto (tgt := 108) (pc := 104) G dX5_cellValue_104 (by decide) ?_
      first
        | exact wm_iret (pc := 108) G R9 dX5_cellValue_108 ⟨h97f.up (by decide), (isB.i1 h_100).I⟩
        | exact wm_iret (pc := 108) G R9 dX5_cellValue_108 ⟨h97f.up (by decide), (isB.i0 h_100).I⟩
  · refine wp_tsOut (pc := 7) (tgt := 109) G dX5_cellValue_7 (by omega) (by omega) (by decide) ?_
    refine wp_aload_n (pc := 109) G dX5_cellValue_109 rfl 1 rfl ?_
    refine wm_get_0 (pc := 110) G dX5_cellValue_110 fX5_7_4 ?_
    refine wp_sipush (pc := 113) G dX5_cellValue_113 (by decide) ?_
    refine wm_ald_0 (pc := 116) G dX5_cellValue_116 (by omega) ?_
    refine wp_iload_n (pc := 117) G dX5_cellValue_117 rfl 2 rfl ?_
    refine ws_calli2 (pc := 118) G dX5_cellValue_118 kX5_91 (ct_has hg (by have := hA.P; unfold okS at this; omega) (by omega)) (by decide) (by decide) (Nat.le_of_ble_eq_true rfl) (fun z_118 h_118 => ?_)
    refine wp_if_eq (tgt := 128) (pc := 121) G dX5_cellValue_121 h_118.r (by decide) (fun h_121 => ?_) (fun h_121 => ?_)
    · have h_121 := h_118.f h_121
      refine wp_iconst (pc := 128) G dX5_cellValue_128 ?_
      obtain rfl : w = 5 := by omega
      first
        | exact wm_iret (pc := 129) G R9 dX5_cellValue_129 ⟨fr.rf, (isB.i1 h_121).I⟩
        | exact wm_iret (pc := 129) G R9 dX5_cellValue_129 ⟨fr.rf, (isB.i0 h_121).I⟩
    · have h_121 := h_118.t h_121
      refine wp_iconst (pc := 124) G dX5_cellValue_124 ?_
      refine wp_goto (tgt := 129) (pc := 125) G dX5_cellValue_125 (by decide) ?_
      obtain rfl : w = 5 := by omega
      first
        | exact wm_iret (pc := 129) G R9 dX5_cellValue_129 ⟨fr.rf, (isB.i1 h_121).I⟩
        | exact wm_iret (pc := 129) G R9 dX5_cellValue_129 ⟨fr.rf, (isB.i0 h_121).I⟩
set_option maxHeartbeats 4000000 in
theorem ct_lakeValue {g : GV} (hg : GOk g) {ad : Nat → Nat} {M : Nat → Int → Int} (hA : okA (M 0)) (hW : waterZ (M 0) ≤ 4000000) (hB : okB (M 0)) {n w : Int} (hn : 0 ≤ n ∧ n < nL (M 0)) (hw : 0 ≤ w ∧ w ≤ 9) : CMi g ad yX5_lakeValue cX5_lakeValue 6 7 .int [iV n, iV w] M (fun z M' => fr [6, 7, 8, 11, 12, 13, 14] M M' ∧ z = lkV (M 0) (ordK (M 0) n) w ∧ ∀ j, 0 ≤ j ∧ j < nL (M 0) → M' 11 j = ordK (M 0) j) := by
  refine wm_ofi hg (by decide +kernel) (Nat.le_of_ble_eq_true rfl) (fun F G R9 => ?_)
  have G : FxOk g F cX5_lakeValue RX5 6 7 := G
  refine wp_loc (L' := [(0, _), (1, _), (2, _)]) rfl ?_
  have hK := hA.K hW
  have hk := ordK_k hA.L hn
  have hk1 := hk.1
  have hmk := (hA.S _ hk.1).1
  have hmn := hA.n _ hk.1 hk.2
  refine wp_aload_n (pc := 0) G dX5_lakeValue_0 rfl 0 rfl ?_
  refine wm_callv0 (pc := 1) G dX5_lakeValue_1 kX5_152 (ct_orders hg hA.L hK) (by decide) (by decide) (Nat.le_of_ble_eq_true rfl) (fun M_1 h_1 => ?_)
  have z1 : M_1 0 = M 0 := h_1.1 0 (by decide)
  have hnL := nL_r hA.L
  refine wp_aload_n (pc := 4) G dX5_lakeValue_4 rfl 0 rfl ?_
  refine wm_get_11 (pc := 5) G dX5_lakeValue_5 fX5_29_4 ?_
  refine wp_iload_n (pc := 8) G dX5_lakeValue_8 rfl 1 rfl ?_
  refine wm_ald_11 (pc := 9) G dX5_lakeValue_9 (by omega) ?_
  rw [ordK_e hA.L h_1 hn]
  refine wp_istore_n (L' := [(3, _), (0, _), (1, _), (2, _)]) (pc := 10) G dX5_lakeValue_10 rfl (by decide) rfl ?_
  refine wp_aload_n (pc := 11) G dX5_lakeValue_11 rfl 1 rfl ?_
  refine wm_get_0 (pc := 12) G dX5_lakeValue_12 fX5_7_4 ?_
  refine wp_sipush (pc := 15) G dX5_lakeValue_15 (by decide) ?_
  refine wp_iload_n (pc := 18) G dX5_lakeValue_18 rfl 0 rfl ?_
  refine wp_iadd (pc := 19) G dX5_lakeValue_19 ?_
  refine wm_ald_0 (pc := 20) G dX5_lakeValue_20 (by omega) ?_
  rw [z1]
  refine wp_lstore (L' := [(4, _), (3, _), (0, _), (1, _), (2, _)]) (pc := 21) G dX5_lakeValue_21 (by decide) rfl ?_
  refine wp_iload_n (pc := 23) G dX5_lakeValue_23 rfl 4 rfl ?_
  rcases (show w = 0 ∨ w = 1 ∨ w = 2 ∨ w = 3 ∨ w = 4 ∨ w = 5 ∨ w = 6 ∨ w = 7 ∨ w = 8 ∨ w = 9 by omega) with rfl | rfl | rfl | rfl | rfl | rfl | rfl | rfl | rfl | rfl
  · refine wp_tsIn (pc := 24) (off := 56) (tgt := 80) G dX5_lakeValue_24 (by omega) (by omega) rfl (by decide) ?_
    refine wp_aload_n (pc := 80) G dX5_lakeValue_80 rfl 2 rfl ?_
    refine wm_get_0 (pc := 81) G dX5_lakeValue_81 fX5_7_4 ?_
    refine wp_sipush (pc := 84) G dX5_lakeValue_84 (by decide) ?_
    refine wp_iload_n (pc := 87) G dX5_lakeValue_87 rfl 1 rfl ?_
    refine wp_iadd (pc := 88) G dX5_lakeValue_88 ?_
    refine wm_ald_0 (pc := 89) G dX5_lakeValue_89 (by omega) ?_
    rw [z1]
    refine wp_l2i (pc := 90) G dX5_lakeValue_90 ?_
    exact wm_iret (pc := 91) G R9 dX5_lakeValue_91 ⟨h_1.1.up (by decide), rfl, fun j hj => ordK_e hA.L h_1 hj⟩
  · refine wp_tsIn (pc := 24) (off := 68) (tgt := 92) G dX5_lakeValue_24 (by omega) (by omega) rfl (by decide) ?_
    refine wp_aload_n (pc := 92) G dX5_lakeValue_92 rfl 2 rfl ?_
    refine wp_iload_n (pc := 93) G dX5_lakeValue_93 rfl 1 rfl ?_
    refine wm_calll1 (pc := 94) G dX5_lakeValue_94 kX5_127 (ct_capacity hg (by rw [z1]; exact hA.L) (by rw [z1]; exact hK) hk1 (m := M 0 (152 + ordK (M 0) n)) (by rw [z1])) (by decide) (by decide) (Nat.le_of_ble_eq_true rfl) (fun z_94 M_94 h_94 => ?_)
    refine wp_l2i (pc := 97) G dX5_lakeValue_97 ?_
    exact wm_iret (pc := 98) G R9 dX5_lakeValue_98 ⟨(h_1.1.up (by decide)).tr (h_94.1.up (by decide)), by rw [z1] at h_94; exact h_94.2.1, fun j hj => by rw [h_94.1 11 (by decide)]; exact ordK_e hA.L h_1 hj⟩
  · refine wp_tsIn (pc := 24) (off := 75) (tgt := 99) G dX5_lakeValue_24 (by omega) (by omega) rfl (by decide) ?_
    refine wp_lload (pc := 99) G dX5_lakeValue_99 0 rfl ?_
    refine ws_calli1 (pc := 101) G dX5_lakeValue_101 kX5_111 (ct_lowest hg hmk hmn) (by decide) (by decide) (Nat.le_of_ble_eq_true rfl) (fun z_101 h_101 => ?_)
    exact wm_iret (pc := 104) G R9 dX5_lakeValue_104 ⟨h_1.1.up (by decide), h_101.e hmk hmn, fun j hj => ordK_e hA.L h_1 hj⟩
  · refine wp_tsIn (pc := 24) (off := 81) (tgt := 105) G dX5_lakeValue_24 (by omega) (by omega) rfl (by decide) ?_
    refine wp_lload (pc := 105) G dX5_lakeValue_105 0 rfl ?_
    refine ws_calli1 (pc := 107) G dX5_lakeValue_107 kX5_254 (ct_bits hg hmk) (by decide) (by decide) (Nat.le_of_ble_eq_true rfl) (fun z_107 h_107 => ?_)
    exact wm_iret (pc := 110) G R9 dX5_lakeValue_110 ⟨h_1.1.up (by decide), h_107, fun j hj => ordK_e hA.L h_1 hj⟩
  · refine wp_tsIn (pc := 24) (off := 87) (tgt := 111) G dX5_lakeValue_24 (by omega) (by omega) rfl (by decide) ?_
    refine wp_aload_n (pc := 111) G dX5_lakeValue_111 rfl 2 rfl ?_
    refine wp_lload (pc := 112) G dX5_lakeValue_112 0 rfl ?_
    refine wm_calli1 (pc := 114) G dX5_lakeValue_114 kX5_168 (ct_wetOf hg (by rw [z1]; exact hA.L) (by rw [z1]; exact hK) hmk) (by decide) (by decide) (Nat.le_of_ble_eq_true rfl) (fun z_114 M_114 h_114 => ?_)
    exact wm_iret (pc := 117) G R9 dX5_lakeValue_117 ⟨(h_1.1.up (by decide)).tr (h_114.1.up (by decide)), by rw [z1] at h_114; exact h_114.2, fun j hj => by rw [h_114.1 11 (by decide)]; exact ordK_e hA.L h_1 hj⟩
  · refine wp_tsIn (pc := 24) (off := 94) (tgt := 118) G dX5_lakeValue_24 (by omega) (by omega) rfl (by decide) ?_
    refine wp_aload_n (pc := 118) G dX5_lakeValue_118 rfl 2 rfl ?_
    refine wp_lload (pc := 119) G dX5_lakeValue_119 0 rfl ?_
    refine wm_calli1 (pc := 121) G dX5_lakeValue_121 kX5_257 (ct_basinsOf hg (by rw [z1]; exact hA.L) (by rw [z1]; exact hB) (by rw [z1]; exact hA.P) hmk) (by decide) (by decide) (Nat.le_of_ble_eq_true rfl) (fun z_121 M_121 h_121 => ?_)
    obtain ⟨rfl, h_121⟩ := h_121
    rw [z1] at h_121
    exact wm_iret (pc := 124) G R9 dX5_lakeValue_124 ⟨h_1.1.up (by decide), h_121, fun j hj => ordK_e hA.L h_1 hj⟩
  · refine wp_tsIn (pc := 24) (off := 108) (tgt := 132) G dX5_lakeValue_24 (by omega) (by omega) rfl (by decide) ?_
    refine wp_aload_n (pc := 132) G dX5_lakeValue_132 rfl 2 rfl ?_
    refine wp_iload_n (pc := 133) G dX5_lakeValue_133 rfl 1 rfl ?_
    refine wm_callv1 (pc := 134) G dX5_lakeValue_134 kX5_123 (ct_findsPass hg (by rw [z1]; exact hA.L) (by rw [z1]; exact hK) hk1 (m := M 0 (152 + ordK (M 0) n)) (by rw [z1])) (by decide) (by decide) (Nat.le_of_ble_eq_true rfl) (fun M_134 h_134 => ?_)
    refine wp_iload_n (pc := 137) G dX5_lakeValue_137 rfl 4 rfl ?_
    refine wp_bipush (pc := 138) G dX5_lakeValue_138 (by decide) ?_
    refine wp_icmp_ne (tgt := 150) (pc := 140) G dX5_lakeValue_140 (by omega) (by omega) (by decide) (fun h_140 => ?_) (fun h_140 => ?_)
    · refine wp_iload_n (pc := 150) G dX5_lakeValue_150 rfl 4 rfl ?_
      refine wp_bipush (pc := 151) G dX5_lakeValue_151 (by decide) ?_
      refine wp_icmp_ne (tgt := 163) (pc := 153) G dX5_lakeValue_153 (by omega) (by omega) (by decide) (fun h_153 => ?_) (fun h_153 => ?_)
      · refine wp_aload_n (pc := 163) G dX5_lakeValue_163 rfl 2 rfl ?_
        refine wm_get_7 (pc := 164) G dX5_lakeValue_164 fX5_120_4 ?_
        first
          | (exfalso; omega)
          | exact wm_iret (pc := 167) G R9 dX5_lakeValue_167 ⟨(h_1.1.up (by decide)).tr (h_134.1.up (by decide)), by rw [z1] at h_134; exact h_134.2.1, fun j hj => by rw [h_134.1 11 (by decide)]; exact ordK_e hA.L h_1 hj⟩
          | exact wm_iret (pc := 167) G R9 dX5_lakeValue_167 ⟨(h_1.1.up (by decide)).tr (h_134.1.up (by decide)), by rw [z1] at h_134; exact h_134.2.2.1, fun j hj => by rw [h_134.1 11 (by decide)]; exact ordK_e hA.L h_1 hj⟩
          | exact wm_iret (pc := 167) G R9 dX5_lakeValue_167 ⟨(h_1.1.up (by decide)).tr (h_134.1.up (by decide)), by rw [z1] at h_134; exact h_134.2.2.2, fun j hj => by rw [h_134.1 11 (by decide)]; exact ordK_e hA.L h_1 hj⟩
      · refine wp_aload_n (pc := 156) G dX5_lakeValue_156 rfl 2 rfl ?_
        refine wm_get_6 (pc := 157) G dX5_lakeValue_157 fX5_117_4 ?_
        refine wp_goto (tgt := 167) (pc := 160) G dX5_lakeValue_160 (by decide) ?_
        first
          | (exfalso; omega)
          | exact wm_iret (pc := 167) G R9 dX5_lakeValue_167 ⟨(h_1.1.up (by decide)).tr (h_134.1.up (by decide)), by rw [z1] at h_134; exact h_134.2.1, fun j hj => by rw [h_134.1 11 (by decide)]; exact ordK_e hA.L h_1 hj⟩
          | exact wm_iret (pc := 167) G R9 dX5_lakeValue_167 ⟨(h_1.1.up (by decide)).tr (h_134.1.up (by decide)), by rw [z1] at h_134; exact h_134.2.2.1, fun j hj => by rw [h_134.1 11 (by decide)]; exact ordK_e hA.L h_1 hj⟩
          | exact wm_iret (pc := 167) G R9 dX5_lakeValue_167 ⟨(h_1.1.up (by decide)).tr (h_134.1.up (by decide)), by rw [z1] at h_134; exact h_134.2.2.2, fun j hj => by rw [h_134.1 11 (by decide)]; exact ordK_e hA.L h_1 hj⟩
    · refine wp_aload_n (pc := 143) G dX5_lakeValue_143 rfl 2 rfl ?_
      refine wm_get_8 (pc := 144) G dX5_lakeValue_144 fX5_114_4 ?_
      refine wp_goto (tgt := 167) (pc := 147) G dX5_lakeValue_147 (by decide) ?_
      first
        | (exfalso; omega)
        | exact wm_iret (pc := 167) G R9 dX5_lakeValue_167 ⟨(h_1.1.up (by decide)).tr (h_134.1.up (by decide)), by rw [z1] at h_134; exact h_134.2.1, fun j hj => by rw [h_134.1 11 (by decide)]; exact ordK_e hA.L h_1 hj⟩
        | exact wm_iret (pc := 167) G R9 dX5_lakeValue_167 ⟨(h_1.1.up (by decide)).tr (h_134.1.up (by decide)), by rw [z1] at h_134; exact h_134.2.2.1, fun j hj => by rw [h_134.1 11 (by decide)]; exact ordK_e hA.L h_1 hj⟩
        | exact wm_iret (pc := 167) G R9 dX5_lakeValue_167 ⟨(h_1.1.up (by decide)).tr (h_134.1.up (by decide)), by rw [z1] at h_134; exact h_134.2.2.2, fun j hj => by rw [h_134.1 11 (by decide)]; exact ordK_e hA.L h_1 hj⟩
  · refine wp_tsIn (pc := 24) (off := 108) (tgt := 132) G dX5_lakeValue_24 (by omega) (by omega) rfl (by decide) ?_
    refine wp_aload_n (pc := 132) G dX5_lakeValue_132 rfl 2 rfl ?_
    refine wp_iload_n (pc := 133) G dX5_lakeValue_133 rfl 1 rfl ?_
    refine wm_callv1 (pc := 134) G dX5_lakeValue_134 kX5_123 (ct_findsPass hg (by rw [z1]; exact hA.L) (by rw [z1]; exact hK) hk1 (m := M 0 (152 + ordK (M 0) n)) (by rw [z1])) (by decide) (by decide) (Nat.le_of_ble_eq_true rfl) (fun M_134 h_134 => ?_)
    refine wp_iload_n (pc := 137) G dX5_lakeValue_137 rfl 4 rfl ?_
    refine wp_bipush (pc := 138) G dX5_lakeValue_138 (by decide) ?_
    refine wp_icmp_ne (tgt := 150) (pc := 140) G dX5_lakeValue_140 (by omega) (by omega) (by decide) (fun h_140 => ?_) (fun h_140 => ?_)
    · refine wp_iload_n (pc := 150) G dX5_lakeValue_150 rfl 4 rfl ?_
      refine wp_bipush (pc := 151) G dX5_lakeValue_151 (by decide) ?_
      refine wp_icmp_ne (tgt := 163) (pc := 153) G dX5_lakeValue_153 (by omega) (by omega) (by decide) (fun h_153 => ?_) (fun h_153 => ?_)
      · refine wp_aload_n (pc := 163) G dX5_lakeValue_163 rfl 2 rfl ?_
        refine wm_get_7 (pc := 164) G dX5_lakeValue_164 fX5_120_4 ?_
        first
          | (exfalso; omega)
          | exact wm_iret (pc := 167) G R9 dX5_lakeValue_167 ⟨(h_1.1.up (by decide)).tr (h_134.1.up (by decide)), by rw [z1] at h_134; exact h_134.2.1, fun j hj => by rw [h_134.1 11 (by decide)]; exact ordK_e hA.L h_1 hj⟩
          | exact wm_iret (pc := 167) G R9 dX5_lakeValue_167 ⟨(h_1.1.up (by decide)).tr (h_134.1.up (by decide)), by rw [z1] at h_134; exact h_134.2.2.1, fun j hj => by rw [h_134.1 11 (by decide)]; exact ordK_e hA.L h_1 hj⟩
          | exact wm_iret (pc := 167) G R9 dX5_lakeValue_167 ⟨(h_1.1.up (by decide)).tr (h_134.1.up (by decide)), by rw [z1] at h_134; exact h_134.2.2.2, fun j hj => by rw [h_134.1 11 (by decide)]; exact ordK_e hA.L h_1 hj⟩
      · refine wp_aload_n (pc := 156) G dX5_lakeValue_156 rfl 2 rfl ?_
        refine wm_get_6 (pc := 157) G dX5_lakeValue_157 fX5_117_4 ?_
        refine wp_goto (tgt := 167) (pc := 160) G dX5_lakeValue_160 (by decide) ?_
        first
          | (exfalso; omega)
          | exact wm_iret (pc := 167) G R9 dX5_lakeValue_167 ⟨(h_1.1.up (by decide)).tr (h_134.1.up (by decide)), by rw [z1] at h_134; exact h_134.2.1, fun j hj => by rw [h_134.1 11 (by decide)]; exact ordK_e hA.L h_1 hj⟩
          | exact wm_iret (pc := 167) G R9 dX5_lakeValue_167 ⟨(h_1.1.up (by decide)).tr (h_134.1.up (by decide)), by rw [z1] at h_134; exact h_134.2.2.1, fun j hj => by rw [h_134.1 11 (by decide)]; exact ordK_e hA.L h_1 hj⟩
          | exact wm_iret (pc := 167) G R9 dX5_lakeValue_167 ⟨(h_1.1.up (by decide)).tr (h_134.1.up (by decide)), by rw [z1] at h_134; exact h_134.2.2.2, fun j hj => by rw [h_134.1 11 (by decide)]; exact ordK_e hA.L h_1 hj⟩
    · refine wp_aload_n (pc := 143) G dX5_lakeValue_143 rfl 2 rfl ?_
      refine wm_get_8 (pc := 144) G dX5_lakeValue_144 fX5_114_4 ?_
      refine wp_goto (tgt := 167) (pc := 147) G dX5_lakeValue_147 (by decide) ?_
      first
        | (exfalso; omega)
        | exact wm_iret (pc := 167) G R9 dX5_lakeValue_167 ⟨(h_1.1.up (by decide)).tr (h_134.1.up (by decide)), by rw [z1] at h_134; exact h_134.2.1, fun j hj => by rw [h_134.1 11 (by decide)]; exact ordK_e hA.L h_1 hj⟩
        | exact wm_iret (pc := 167) G R9 dX5_lakeValue_167 ⟨(h_1.1.up (by decide)).tr (h_134.1.up (by decide)), by rw [z1] at h_134; exact h_134.2.2.1, fun j hj => by rw [h_134.1 11 (by decide)]; exact ordK_e hA.L h_1 hj⟩
        | exact wm_iret (pc := 167) G R9 dX5_lakeValue_167 ⟨(h_1.1.up (by decide)).tr (h_134.1.up (by decide)), by rw [z1] at h_134; exact h_134.2.2.2, fun j hj => by rw [h_134.1 11 (by decide)]; exact ordK_e hA.L h_1 hj⟩
  · refine wp_tsIn (pc := 24) (off := 108) (tgt := 132) G dX5_lakeValue_24 (by omega) (by omega) rfl (by decide) ?_
    refine wp_aload_n (pc := 132) G dX5_lakeValue_132 rfl 2 rfl ?_
    refine wp_iload_n (pc := 133) G dX5_lakeValue_133 rfl 1 rfl ?_
    refine wm_callv1 (pc := 134) G dX5_lakeValue_134 kX5_123 (ct_findsPass hg (by rw [z1]; exact hA.L) (by rw [z1]; exact hK) hk1 (m := M 0 (152 + ordK (M 0) n)) (by rw [z1])) (by decide) (by decide) (Nat.le_of_ble_eq_true rfl) (fun M_134 h_134 => ?_)
    refine wp_iload_n (pc := 137) G dX5_lakeValue_137 rfl 4 rfl ?_
    refine wp_bipush (pc := 138) G dX5_lakeValue_138 (by decide) ?_
    refine wp_icmp_ne (tgt := 150) (pc := 140) G dX5_lakeValue_140 (by omega) (by omega) (by decide) (fun h_140 => ?_) (fun h_140 => ?_)
    · refine wp_iload_n (pc := 150) G dX5_lakeValue_150 rfl 4 rfl ?_
      refine wp_bipush (pc := 151) G dX5_lakeValue_151 (by decide) ?_
      refine wp_icmp_ne (tgt := 163) (pc := 153) G dX5_lakeValue_153 (by omega) (by omega) (by decide) (fun h_153 => ?_) (fun h_153 => ?_)
      · refine wp_aload_n (pc := 163) G dX5_lakeValue_163 rfl 2 rfl ?_
        refine wm_get_7 (pc := 164) G dX5_lakeValue_164 fX5_120_4 ?_
        first
          | (exfalso; omega)
          | exact wm_iret (pc := 167) G R9 dX5_lakeValue_167 ⟨(h_1.1.up (by decide)).tr (h_134.1.up (by decide)), by rw [z1] at h_134; exact h_134.2.1, fun j hj => by rw [h_134.1 11 (by decide)]; exact ordK_e hA.L h_1 hj⟩
          | exact wm_iret (pc := 167) G R9 dX5_lakeValue_167 ⟨(h_1.1.up (by decide)).tr (h_134.1.up (by decide)), by rw [z1] at h_134; exact h_134.2.2.1, fun j hj => by rw [h_134.1 11 (by decide)]; exact ordK_e hA.L h_1 hj⟩
          | exact wm_iret (pc := 167) G R9 dX5_lakeValue_167 ⟨(h_1.1.up (by decide)).tr (h_134.1.up (by decide)), by rw [z1] at h_134; exact h_134.2.2.2, fun j hj => by rw [h_134.1 11 (by decide)]; exact ordK_e hA.L h_1 hj⟩
      · refine wp_aload_n (pc := 156) G dX5_lakeValue_156 rfl 2 rfl ?_
        refine wm_get_6 (pc := 157) G dX5_lakeValue_157 fX5_117_4 ?_
        refine wp_goto (tgt := 167) (pc := 160) G dX5_lakeValue_160 (by decide) ?_
        first
          | (exfalso; omega)
          | exact wm_iret (pc := 167) G R9 dX5_lakeValue_167 ⟨(h_1.1.up (by decide)).tr (h_134.1.up (by decide)), by rw [z1] at h_134; exact h_134.2.1, fun j hj => by rw [h_134.1 11 (by decide)]; exact ordK_e hA.L h_1 hj⟩
          | exact wm_iret (pc := 167) G R9 dX5_lakeValue_167 ⟨(h_1.1.up (by decide)).tr (h_134.1.up (by decide)), by rw [z1] at h_134; exact h_134.2.2.1, fun j hj => by rw [h_134.1 11 (by decide)]; exact ordK_e hA.L h_1 hj⟩
          | exact wm_iret (pc := 167) G R9 dX5_lakeValue_167 ⟨(h_1.1.up (by decide)).tr (h_134.1.up (by decide)), by rw [z1] at h_134; exact h_134.2.2.2, fun j hj => by rw [h_134.1 11 (by decide)]; exact ordK_e hA.L h_1 hj⟩
    · refine wp_aload_n (pc := 143) G dX5_lakeValue_143 rfl 2 rfl ?_
      refine wm_get_8 (pc := 144) G dX5_lakeValue_144 fX5_114_4 ?_
      refine wp_goto (tgt := 167) (pc := 147) G dX5_lakeValue_147 (by decide) ?_
      first
        | (exfalso; omega)
        | exact wm_iret (pc := 167) G R9 dX5_lakeValue_167 ⟨(h_1.1.up (by decide)).tr (h_134.1.up (by decide)), by rw [z1] at h_134; exact h_134.2.1, fun j hj => by rw [h_134.1 11 (by decide)]; exact ordK_e hA.L h_1 hj⟩
        | exact wm_iret (pc := 167) G R9 dX5_lakeValue_167 ⟨(h_1.1.up (by decide)).tr (h_134.1.up (by decide)), by rw [z1] at h_134; exact h_134.2.2.1, fun j hj => by rw [h_134.1 11 (by decide)]; exact ordK_e hA.L h_1 hj⟩
        | exact wm_iret (pc := 167) G R9 dX5_lakeValue_167 ⟨(h_1.1.up (by decide)).tr (h_134.1.up (by decide)), by rw [z1] at h_134; exact h_134.2.2.2, fun j hj => by rw [h_134.1 11 (by decide)]; exact ordK_e hA.L h_1 hj⟩
  · refine wp_tsIn (pc := 24) (off := 101) (tgt := 125) G dX5_lakeValue_24 (by omega) (by omega) rfl (by decide) ?_
    refine wp_aload_n (pc := 125) G dX5_lakeValue_125 rfl 2 rfl ?_
    refine wp_iload_n (pc := 126) G dX5_lakeValue_126 rfl 1 rfl ?_
    refine wm_calll1 (pc := 127) G dX5_lakeValue_127 kX5_142 (ct_leastVolume hg (by rw [z1]; exact hA.L) (by rw [z1]; exact hK) hk1) (by decide) (by decide) (Nat.le_of_ble_eq_true rfl) (fun z_127 M_127 h_127 => ?_)
    refine wp_l2i (pc := 130) G dX5_lakeValue_130 ?_
    exact wm_iret (pc := 131) G R9 dX5_lakeValue_131 ⟨(h_1.1.up (by decide)).tr (h_127.1.up (by decide)), by rw [z1] at h_127; exact h_127.2, fun j hj => by rw [h_127.1 11 (by decide)]; exact ordK_e hA.L h_1 hj⟩
set_option maxHeartbeats 4000000 in
theorem ct_levelPart {g : GV} (hg : GOk g) {ad : Nat → Nat} {M : Nat → Int → Int} (hA : okA (M 0)) (hW : waterZ (M 0) ≤ 4000000) {n p : Int} (hn : 0 ≤ n ∧ n < nL (M 0)) (hp : p = 0 ∨ p = 1) : CMi g ad yX5_levelPart cX5_levelPart 5 3 .int [iV n, iV p] M (fun z M' => fr [6, 7, 8, 11, 12, 13, 14] M M' ∧ z = lvZ (M 0) (ordK (M 0) n) p ∧ ∀ j, 0 ≤ j ∧ j < nL (M 0) → M' 11 j = ordK (M 0) j) := by
  refine wm_ofi hg (by decide +kernel) (Nat.le_of_ble_eq_true rfl) (fun F G R9 => ?_)
  have G : FxOk g F cX5_levelPart RX5 5 3 := G
  refine wp_loc (L' := [(0, _), (1, _), (2, _)]) rfl ?_
  have hK := hA.K hW
  have hk := ordK_k hA.L hn
  have hk1 := hk.1
  have hvk := (hK.1 _ hk.1).2.1
  have hmk := (hA.S _ hk.1).1
  have hmn := hA.n _ hk.1 hk.2
  have hll := lowZ_p hmk hmn
  have hlc : isC (M 0) (lowZ (M 0 (152 + ordK (M 0) n))) := (hA.S _ hk.1).2 _ hll.1.1 hll.2.1
  refine wp_aload_n (pc := 0) G dX5_levelPart_0 rfl 0 rfl ?_
  refine wm_callv0 (pc := 1) G dX5_levelPart_1 kX5_152 (ct_orders hg hA.L hK) (by decide) (by decide) (Nat.le_of_ble_eq_true rfl) (fun M_1 h_1 => ?_)
  have z1 : M_1 0 = M 0 := h_1.1 0 (by decide)
  have hnL := nL_r hA.L
  refine wp_aload_n (pc := 4) G dX5_levelPart_4 rfl 0 rfl ?_
  refine wp_aload_n (pc := 5) G dX5_levelPart_5 rfl 0 rfl ?_
  refine wm_get_11 (pc := 6) G dX5_levelPart_6 fX5_29_4 ?_
  refine wp_iload_n (pc := 9) G dX5_levelPart_9 rfl 1 rfl ?_
  refine wm_ald_11 (pc := 10) G dX5_levelPart_10 (by omega) ?_
  rw [ordK_e hA.L h_1 hn]
  refine wm_callv1 (pc := 11) G dX5_levelPart_11 kX5_162 (ct_levels hg (by rw [z1]; exact hA.L) (by rw [z1]; exact hK) hk1 (m := M 0 (152 + ordK (M 0) n)) (vol := M 0 (224 + ordK (M 0) n)) (by rw [z1]) (by rw [z1]) (by rw [z1]; exact ⟨_, hlc, hll.2.1⟩)) (by decide) (by decide) (Nat.le_of_ble_eq_true rfl) (fun M_11 h_11 => ?_)
  obtain ⟨hf11, hl11⟩ := h_11
  rw [z1] at hl11
  have hr11 := LV_r hA.L hl11 hvk
  have hv9 := lvZ_e (p := p) hl11
  refine wp_aload_n (pc := 14) G dX5_levelPart_14 rfl 0 rfl ?_
  refine wm_get_13 (pc := 15) G dX5_levelPart_15 fX5_159_4 ?_
  refine wp_aload_n (pc := 18) G dX5_levelPart_18 rfl 0 rfl ?_
  refine wm_get_14 (pc := 19) G dX5_levelPart_19 fX5_155_4 ?_
  refine ws_calll2 (pc := 22) G dX5_levelPart_22 kX5_265 (ct_divisor hg (by omega) (by omega)) (by decide) (by decide) (Nat.le_of_ble_eq_true rfl) (fun z_22 h_22 => ?_)
  have hg0 : 0 < (Int.gcd (M_11 13 0) (M_11 14 0) : Int) := by
    have := Int.gcd_pos_of_ne_zero_right (M_11 13 0) (show M_11 14 0 ≠ 0 by omega)
    omega
  have hg1 : (Int.gcd (M_11 13 0) (M_11 14 0) : Int) ≤ 9223372036854775807 := by
    have := Int.gcd_le_natAbs_right (M_11 13 0) (show M_11 14 0 ≠ 0 by omega)
    omega
  subst h_22
  refine wp_lstore_n (L' := [(3, _), (0, _), (1, _), (2, _)]) (pc := 25) G dX5_levelPart_25 rfl (by decide) rfl ?_
  refine wp_iload_n (pc := 26) G dX5_levelPart_26 rfl 3 rfl ?_
  refine wp_if_ne (tgt := 37) (pc := 27) G dX5_levelPart_27 (by omega) (by decide) (fun h_27 => ?_) (fun h_27 => ?_)
  · refine wp_aload_n (pc := 37) G dX5_levelPart_37 rfl 1 rfl ?_
    refine wm_get_14 (pc := 38) G dX5_levelPart_38 fX5_155_4 ?_
    refine wp_lload_n (pc := 41) G dX5_levelPart_41 rfl 0 rfl ?_
    refine wp_ldiv (pc := 42) G dX5_levelPart_42 (by omega) ⟨hg0, hg1⟩ ?_
    refine wp_l2i (pc := 43) G dX5_levelPart_43 ?_
    first
      | exact wm_iret (pc := 44) G R9 dX5_levelPart_44 ⟨(h_1.1.up (by decide)).tr (hf11.up (by decide)), by rw [hv9, if_pos h_27], fun j hj => by rw [hf11 11 (by decide)]; exact ordK_e hA.L h_1 hj⟩
      | exact wm_iret (pc := 44) G R9 dX5_levelPart_44 ⟨(h_1.1.up (by decide)).tr (hf11.up (by decide)), by rw [hv9, if_neg h_27], fun j hj => by rw [hf11 11 (by decide)]; exact ordK_e hA.L h_1 hj⟩
  · refine wp_aload_n (pc := 30) G dX5_levelPart_30 rfl 1 rfl ?_
    refine wm_get_13 (pc := 31) G dX5_levelPart_31 fX5_159_4 ?_
    refine wp_goto (tgt := 41) (pc := 34) G dX5_levelPart_34 (by decide) ?_
    refine wp_lload_n (pc := 41) G dX5_levelPart_41 rfl 0 rfl ?_
    refine wp_ldiv (pc := 42) G dX5_levelPart_42 (by omega) ⟨hg0, hg1⟩ ?_
    refine wp_l2i (pc := 43) G dX5_levelPart_43 ?_
    first
      | exact wm_iret (pc := 44) G R9 dX5_levelPart_44 ⟨(h_1.1.up (by decide)).tr (hf11.up (by decide)), by rw [hv9, if_pos h_27], fun j hj => by rw [hf11 11 (by decide)]; exact ordK_e hA.L h_1 hj⟩
      | exact wm_iret (pc := 44) G R9 dX5_levelPart_44 ⟨(h_1.1.up (by decide)).tr (hf11.up (by decide)), by rw [hv9, if_neg h_27], fun j hj => by rw [hf11 11 (by decide)]; exact ordK_e hA.L h_1 hj⟩
