/-! THE MODEL: evaporates -/
set_option maxRecDepth 100000
set_option maxHeartbeats 4000000 in
theorem ct_evaporates {g : GV} (hg : GOk g) {ad : Nat → Nat} {M : Nat → Int → Int} (hA : okA (M 0)) (hw : waterZ (M 0) ≤ 4000000) : CMv g ad yX5_evaporates cX5_evaporates 7 8 [] M (fun M' => fr [0, 6, 7, 8, 9, 10, 11, 12, 13, 14, 18, 19] M M' ∧ evS (M 0) (M' 0)) := by
  refine wm_ofv hg (by decide +kernel) (Nat.le_of_ble_eq_true rfl) (fun F G R9 => ?_)
  have G : FxOk g F cX5_evaporates RX5 7 8 := G
  refine wp_loc (L' := [(0, _)]) rfl ?_
  have hmm := hA.L.m
  have hnL := nL_r hA.L
  have hK := hA.K hw
  have loop2 : ∀ (n : Nat) (i : Int) (M3 : Nat → Int → Int), (0 ≤ i ∧ i ≤ nL (M 0)) → (nL (M 0) + 1 ≤ i + n) → (fr [0, 6, 7, 8, 9, 10, 11, 12, 13, 14, 18, 19] M M3) → (evR (M 0) i.toNat (M3 0)) → (∀ j, 0 ≤ j ∧ j < nL (M 0) → M3 18 j = ordK (M 0) j ∧ M3 19 j = evA (M 0) (ordK (M 0) j)) → Wp g F [MB g ad M3] 0 0 93 [(2, iV i), (0, .ref (ad 25)), (1, iV (nL (M 0)))] [] := by
    intro n
    induction n with
    | zero =>
      intro i M3 hi hn hf3 hZ hp
      exfalso
      omega
    | succ n ih =>
      intro i M3 hi hn hf3 hZ hp
      refine wp_iload_n (pc := 93) G dX5_evaporates_93 rfl 0 rfl ?_
      refine wp_iload_n (pc := 94) G dX5_evaporates_94 rfl 2 rfl ?_
      refine wp_icmp_ge (tgt := 120) (pc := 95) G dX5_evaporates_95 (by omega) (by omega) (by decide) (fun h_95 => ?_) (fun h_95 => ?_)
      · exact wm_vret (pc := 120) G R9 dX5_evaporates_120 ⟨hf3, by unfold evS; rw [show nL (M 0) = i by omega]; exact hZ⟩
      · have hk := ordK_k hA.L (n := i) (by omega)
        have hk1 := hk.1
        have hrr := evA_r hA hk
        obtain ⟨Y, y1, y2, y3, y4, y5, y6, y7⟩ := evR_ok hA i.toNat (by omega)
        have eY := evR_u _ _ _ hZ y1
        rw [← eY] at y2 y6 y7
        obtain ⟨q1, q2, q3⟩ := y7 i (by omega)
        refine wp_aload_n (pc := 98) G dX5_evaporates_98 rfl 1 rfl ?_
        refine wp_aload_n (pc := 99) G dX5_evaporates_99 rfl 1 rfl ?_
        refine wm_get_18 (pc := 100) G dX5_evaporates_100 fX5_38_4 ?_
        refine wp_iload_n (pc := 103) G dX5_evaporates_103 rfl 0 rfl ?_
        refine wm_ald_18 (pc := 104) G dX5_evaporates_104 (by omega) ?_
        rw [(hp i (by omega)).1]
        refine wp_aload_n (pc := 105) G dX5_evaporates_105 rfl 1 rfl ?_
        refine wm_get_19 (pc := 106) G dX5_evaporates_106 fX5_41_4 ?_
        refine wp_iload_n (pc := 109) G dX5_evaporates_109 rfl 0 rfl ?_
        refine wm_ald_19 (pc := 110) G dX5_evaporates_110 (by omega) ?_
        rw [(hp i (by omega)).2]
        refine wm_callv2 (pc := 111) G dX5_evaporates_111 kX5_238 (ct_takes hg y2 (by omega) q1 (by rw [q3]; exact hrr)) (by decide) (by decide) (Nat.le_of_ble_eq_true rfl) (fun M_111 h_111 => ?_)
        obtain ⟨hf111, W, hW, z111⟩ := h_111
        refine wp_iinc (L' := [(2, _), (0, _), (1, _)]) (pc := 114) G dX5_evaporates_114 0 rfl (by decide) rfl ?_
        refine wp_goto (tgt := 93) (pc := 117) G dX5_evaporates_117 (by decide) ?_
        refine ih (i + 1) M_111 (by omega) (by omega) (hf3.tr (hf111.up (by decide))) ?_ (fun j hj => by rw [hf111 18 (by decide), hf111 19 (by decide)]; exact hp j hj)
        rw [tn_s hi.1]
        refine ⟨M3 0, W, hZ, ?_, ?_⟩
        · rw [show ((i.toNat : Nat) : Int) = i by omega]; exact hW
        · rw [show ((i.toNat : Nat) : Int) = i by omega]; exact z111
  refine wp_aload_n (pc := 0) G dX5_evaporates_0 rfl 0 rfl ?_
  refine wm_callv0 (pc := 1) G dX5_evaporates_1 kX5_152 (ct_orders hg hA.L hK) (by decide) (by decide) (Nat.le_of_ble_eq_true rfl) (fun M_1 h_1 => ?_)
  refine wp_aload_n (pc := 4) G dX5_evaporates_4 rfl 0 rfl ?_
  refine wm_get_12 (pc := 5) G dX5_evaporates_5 fX5_149_4 ?_
  rw [h_1.2.1]
  refine wp_istore_n (L' := [(1, _), (0, _)]) (pc := 8) G dX5_evaporates_8 rfl (by decide) rfl ?_
  refine wp_iconst (pc := 9) G dX5_evaporates_9 ?_
  refine wp_istore_n (L' := [(2, _), (1, _), (0, _)]) (pc := 10) G dX5_evaporates_10 rfl (by decide) rfl ?_
  refine wp_sub (L' := [(2, _), (0, _), (1, _)]) [0, 2, 1] rfl ?_
  have loop1 : ∀ (n : Nat) (i : Int) (M1 : Nat → Int → Int), (0 ≤ i ∧ i ≤ nL (M 0)) → (nL (M 0) + 1 ≤ i + n) → (fr [0, 6, 7, 8, 9, 10, 11, 12, 13, 14, 18, 19] M M1) → (M1 0 = M 0) → (∀ j, 0 ≤ j ∧ j < nL (M 0) → M1 11 j = ordK (M 0) j) → (∀ j, 0 ≤ j ∧ j < i → M1 18 j = ordK (M 0) j ∧ M1 19 j = evA (M 0) (ordK (M 0) j)) → Wp g F [MB g ad M1] 0 0 11 [(2, iV i), (0, .ref (ad 25)), (1, iV (nL (M 0)))] [] := by
    intro n
    induction n with
    | zero =>
      intro i M1 hi hn hf hz ho hp
      exfalso
      omega
    | succ n ih =>
      intro i M1 hi hn hf hz ho hp
      refine wp_iload_n (pc := 11) G dX5_evaporates_11 rfl 0 rfl ?_
      refine wp_iload_n (pc := 12) G dX5_evaporates_12 rfl 2 rfl ?_
      refine wp_icmp_ge (tgt := 91) (pc := 13) G dX5_evaporates_13 (by omega) (by omega) (by decide) (fun h_13 => ?_) (fun h_13 => ?_)
      · refine wp_iconst (pc := 91) G dX5_evaporates_91 ?_
        refine wp_istore_n (L' := [(2, _), (0, _), (1, _)]) (pc := 92) G dX5_evaporates_92 rfl (by decide) rfl ?_
        refine wp_loc (L' := [(2, _), (0, _), (1, _)]) rfl ?_
        exact loop2 38 0 M1 (by omega) (by omega) hf (by show M1 0 = M 0; exact hz) (fun j hj => hp j (by omega))
      · have hk := ordK_k hA.L (n := i) (by omega)
        have hk1 := hk.1
        have hmk := (hA.S _ hk.1).1
        have hvk := (hK.1 _ hk.1).2.1
        have o1 := ho i (by omega)
        refine wp_aload_n (pc := 16) G dX5_evaporates_16 rfl 1 rfl ?_
        refine wp_aload_n (pc := 17) G dX5_evaporates_17 rfl 1 rfl ?_
        refine wm_get_0 (pc := 18) G dX5_evaporates_18 fX5_7_4 ?_
        refine wp_sipush (pc := 21) G dX5_evaporates_21 (by decide) ?_
        refine wp_aload_n (pc := 24) G dX5_evaporates_24 rfl 1 rfl ?_
        refine wm_get_11 (pc := 25) G dX5_evaporates_25 fX5_29_4 ?_
        refine wp_iload_n (pc := 28) G dX5_evaporates_28 rfl 0 rfl ?_
        refine wm_ald_11 (pc := 29) G dX5_evaporates_29 (by omega) ?_
        rw [o1]
        refine wp_iadd (pc := 30) G dX5_evaporates_30 ?_
        refine wm_ald_0 (pc := 31) G dX5_evaporates_31 (by omega) ?_
        rw [hz]
        refine wm_calli1 (pc := 32) G dX5_evaporates_32 kX5_168 (ct_wetOf hg (by rw [hz]; exact hA.L) (by rw [hz]; exact hK) hmk) (by decide) (by decide) (Nat.le_of_ble_eq_true rfl) (fun z_32 M_32 h_32 => ?_)
        obtain ⟨hf32, h32⟩ := h_32
        rw [hz] at h32
        have z2 : M_32 0 = M 0 := by rw [hf32 0 (by decide), hz]
        have o2 : M_32 11 i = ordK (M 0) i := by rw [hf32 11 (by decide)]; exact o1
        have w2 := cntP_r (fun c => inS (M 0 (152 + ordK (M 0) i)) c ∧ wetP (M 0) c) (mny (M 0)).toNat
        have w3 : 0 ≤ z_32 ∧ z_32 ≤ 36 := by rw [h32]; unfold wetZ; omega
        have stp : ∀ v : Int, v = evA (M 0) (ordK (M 0) i) → Wp g F [MB g ad (ma1 (ma1 M_32 18 i (ordK (M 0) i)) 19 i v)] 0 0 11 [(2, iV (i + 1)), (0, .ref (ad 25)), (1, iV (nL (M 0)))] [] := by
          intro v hv
          refine ih (i + 1) _ (by omega) (by omega) (((hf.tr (hf32.up (by decide))).a1 (by decide)).a1 (by decide)) z2 (fun j hj => by show M_32 11 j = _; rw [hf32 11 (by decide)]; exact ho j hj) (fun j hj => ?_)
          show fup (M_32 18) i (ordK (M 0) i) j = _ ∧ fup (M_32 19) i v j = _
          rw [hf32 18 (by decide), hf32 19 (by decide)]
          by_cases e : j = i
          · rw [e, fup_s, fup_s]; exact ⟨rfl, hv⟩
          · rw [fup_n _ _ e, fup_n _ _ e]; exact hp j (by omega)
        refine wp_i2l (pc := 35) G dX5_evaporates_35 (by omega) ?_
        refine wp_lstore_n (L' := [(3, _), (2, _), (0, _), (1, _)]) (pc := 36) G dX5_evaporates_36 rfl (by decide) rfl ?_
        refine wp_aload_n (pc := 37) G dX5_evaporates_37 rfl 2 rfl ?_
        refine wm_get_0 (pc := 38) G dX5_evaporates_38 fX5_7_4 ?_
        refine wp_sipush (pc := 41) G dX5_evaporates_41 (by decide) ?_
        refine wp_aload_n (pc := 44) G dX5_evaporates_44 rfl 2 rfl ?_
        refine wm_get_11 (pc := 45) G dX5_evaporates_45 fX5_29_4 ?_
        refine wp_iload_n (pc := 48) G dX5_evaporates_48 rfl 1 rfl ?_
        refine wm_ald_11 (pc := 49) G dX5_evaporates_49 (by omega) ?_
        rw [o2]
        refine wp_iadd (pc := 50) G dX5_evaporates_50 ?_
        refine wm_ald_0 (pc := 51) G dX5_evaporates_51 (by omega) ?_
        rw [z2]
        refine wp_lstore (L' := [(5, _), (3, _), (2, _), (0, _), (1, _)]) (pc := 52) G dX5_evaporates_52 (by decide) rfl ?_
        refine wp_aload_n (pc := 54) G dX5_evaporates_54 rfl 3 rfl ?_
        refine wm_get_18 (pc := 55) G dX5_evaporates_55 fX5_38_4 ?_
        refine wp_iload_n (pc := 58) G dX5_evaporates_58 rfl 2 rfl ?_
        refine wp_aload_n (pc := 59) G dX5_evaporates_59 rfl 3 rfl ?_
        refine wm_get_11 (pc := 60) G dX5_evaporates_60 fX5_29_4 ?_
        refine wp_iload_n (pc := 63) G dX5_evaporates_63 rfl 2 rfl ?_
        refine wm_ald_11 (pc := 64) G dX5_evaporates_64 (by omega) ?_
        rw [o2]
        refine wm_ast_18 (pc := 65) G dX5_evaporates_65 (by omega) ?_
        refine wp_aload_n (pc := 66) G dX5_evaporates_66 rfl 3 rfl ?_
        refine wm_get_19 (pc := 67) G dX5_evaporates_67 fX5_41_4 ?_
        refine wp_iload_n (pc := 70) G dX5_evaporates_70 rfl 2 rfl ?_
        refine wp_lload_n (pc := 71) G dX5_evaporates_71 rfl 1 rfl ?_
        refine wp_lload (pc := 72) G dX5_evaporates_72 0 rfl ?_
        refine wp_lcmp_ge (tgt := 82) (pc := 74) G dX5_evaporates_74 dX5_evaporates_75 (by omega) (by omega) (by decide) (fun h_74 => ?_) (fun h_74 => ?_)
        · refine wp_lload (pc := 82) G dX5_evaporates_82 0 rfl ?_
          refine wm_ast_19 (pc := 84) G dX5_evaporates_84 (by omega) ?_
          refine wp_iinc (L' := [(2, _), (5, _), (3, _), (0, _), (1, _)]) (pc := 85) G dX5_evaporates_85 2 rfl (by decide) rfl ?_
          refine wp_goto (tgt := 11) (pc := 88) G dX5_evaporates_88 (by decide) ?_
          refine wp_sub (L' := [(2, _), (0, _), (1, _)]) [0, 3, 4] rfl ?_
          first
            | (have e9 : evA (M 0) (ordK (M 0) i) = z_32 := (if_pos (by rw [← h32]; exact h_74)).trans h32.symm
               exact stp z_32 e9.symm)
            | (have e9 : evA (M 0) (ordK (M 0) i) = M 0 (224 + ordK (M 0) i) := if_neg (by omega)
               exact stp _ e9.symm)
        · refine wp_lload_n (pc := 78) G dX5_evaporates_78 rfl 1 rfl ?_
          refine wp_goto (tgt := 84) (pc := 79) G dX5_evaporates_79 (by decide) ?_
          refine wm_ast_19 (pc := 84) G dX5_evaporates_84 (by omega) ?_
          refine wp_iinc (L' := [(2, _), (5, _), (3, _), (0, _), (1, _)]) (pc := 85) G dX5_evaporates_85 2 rfl (by decide) rfl ?_
          refine wp_goto (tgt := 11) (pc := 88) G dX5_evaporates_88 (by decide) ?_
          refine wp_sub (L' := [(2, _), (0, _), (1, _)]) [0, 3, 4] rfl ?_
          first
            | (have e9 : evA (M 0) (ordK (M 0) i) = z_32 := (if_pos (by rw [← h32]; exact h_74)).trans h32.symm
               exact stp z_32 e9.symm)
            | (have e9 : evA (M 0) (ordK (M 0) i) = M 0 (224 + ordK (M 0) i) := if_neg (by omega)
               exact stp _ e9.symm)
  exact loop1 38 0 _ (by omega) (by omega) (h_1.1.up (by decide)) (h_1.1 0 (by decide)) (fun j hj => ordK_e hA.L h_1 hj) (fun j hj => by omega)
