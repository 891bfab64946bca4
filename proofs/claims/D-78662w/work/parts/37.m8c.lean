/-! THE MODEL: the text, third part -/
set_option maxRecDepth 100000
set_option maxHeartbeats 4000000 in
theorem ct_readsGate {g : GV} (hg : GOk g) {ad : Nat → Nat} {M : Nat → Int → Int} (hL : okL (M 0)) (hX : okX M) : CMi g ad yX5_readsGate cX5_readsGate 3 4 .boolean [] M (fun z M' => fr [0, 22, 23] M M' ∧ gateP (M 0) (M 20) (M 21 0) (M 22 0) z (M' 22 0) (M' 0)) := by
  refine wm_ofi hg (by decide +kernel) (Nat.le_of_ble_eq_true rfl) (fun F G R9 => ?_)
  have G : FxOk g F cX5_readsGate RX5 3 4 := G
  refine wp_loc (L' := [(0, _)]) rfl ?_
  have hp9 := hX.2.2
  have hm := hL.m
  refine wp_aload_n (pc := 0) G dX5_readsGate_0 rfl 0 rfl ?_
  refine wp_iconst (pc := 1) G dX5_readsGate_1 ?_
  refine wm_calli1 (pc := 2) G dX5_readsGate_2 kX5_312 (ct_readsCell hg hL hX (Or.inl rfl)) (by decide) (by decide) (Nat.le_of_ble_eq_true rfl) (fun z_2 M_2 h_2 => ?_)
  obtain ⟨hf2, hc2⟩ := h_2
  have hF2 : fr [22, 23] M M_2 := hf2
  have z2 : M_2 0 = M 0 := hF2 0 (by decide)
  have t2 : M_2 20 = M 20 := hF2 20 (by decide)
  have n2 : M_2 21 = M 21 := hF2 21 (by decide)
  have r2 := hc2.r (by omega)
  have hX2 : okX M_2 := hX.to (hF2.up (by decide)) (by omega)
  have hL2 : okL (M_2 0) := by rw [z2]; exact hL
  have y2 : isB z_2 (z_2 = 1) := r2.2.2.elim (fun e => Or.inr ⟨e, by omega⟩) (fun e => Or.inl ⟨e, e⟩)
  refine wp_if_ne (tgt := 10) (pc := 5) G dX5_readsGate_5 y2.r (by decide) (fun h_5 => ?_) (fun h_5 => ?_)
  · have h_5 := y2.t h_5
    refine wp_aload_n (pc := 10) G dX5_readsGate_10 rfl 0 rfl ?_
    refine wm_get_23 (pc := 11) G dX5_readsGate_11 fX5_302_4 ?_
    refine wp_istore_n (L' := [(1, _), (0, _)]) (pc := 14) G dX5_readsGate_14 rfl (by decide) rfl ?_
    refine wp_aload_n (pc := 15) G dX5_readsGate_15 rfl 1 rfl ?_
    refine wp_bipush (pc := 16) G dX5_readsGate_16 (by decide) ?_
    refine wm_calli1 (pc := 18) G dX5_readsGate_18 kX5_315 (ct_passes hg hX2 (by omega)) (by decide) (by decide) (Nat.le_of_ble_eq_true rfl) (fun z_18 M_18 h_18 => ?_)
    obtain ⟨hm18, hb18⟩ := h_18
    have hF18 : fr [22, 23] M M_18 := by rw [hm18]; exact hF2.s1 (by decide)
    have z18 : M_18 0 = M 0 := hF18 0 (by decide)
    have t18 : M_18 20 = M 20 := hF18 20 (by decide)
    have n18 : M_18 21 = M 21 := hF18 21 (by decide)
    have p18 : M_18 22 0 = if M_2 22 0 < M_2 21 0 ∧ M_2 20 (M_2 22 0) = 44 then M_2 22 0 + 1 else M_2 22 0 := by rw [hm18]; rfl
    rw [t2, n2] at p18 hb18
    have hb18 : isB z_18 (cpP (M 20) (M 21 0) (M_2 22 0) 44) := hb18
    have py18 : cpP (M 20) (M 21 0) (M_2 22 0) 44 → M_18 22 0 = M_2 22 0 + 1 := fun q => p18.trans (if_pos (c := _ ∧ _) q)
    have pn18 : ¬ cpP (M 20) (M 21 0) (M_2 22 0) 44 → M_18 22 0 = M_2 22 0 := fun q => p18.trans (if_neg (c := _ ∧ _) q)
    have r18 : M_2 22 0 ≤ M_18 22 0 ∧ M_18 22 0 ≤ M 21 0 := by
      by_cases q : cpP (M 20) (M 21 0) (M_2 22 0) 44
      · have := py18 q; have := q.1; omega
      · have := pn18 q; omega
    have hX18 : okX M_18 := hX.to (hF18.up (by decide)) (by omega)
    have hL18 : okL (M_18 0) := by rw [z18]; exact hL
    refine wp_if_eq (tgt := 32) (pc := 21) G dX5_readsGate_21 hb18.r (by decide) (fun h_21 => ?_) (fun h_21 => ?_)
    · have h_21 := hb18.f h_21
      refine wp_iconst (pc := 32) G dX5_readsGate_32 ?_
      first
        | exact wm_zret (pc := 33) G R9 dX5_readsGate_33 (by decide) ⟨hF26.up (by decide), _, _, _, hc2, Or.inr (Or.inr ⟨h_5, h_21, _, _, _, (py18 h_21) ▸ hc26, Or.inl ⟨by omega, rfl, rfl⟩⟩)⟩
        | exact wm_zret (pc := 33) G R9 dX5_readsGate_33 (by decide) ⟨hF18.up (by decide), _, _, _, hc2, Or.inr (Or.inl ⟨h_5, h_21, rfl, pn18 h_21⟩)⟩
    · have h_21 := hb18.t h_21
      refine wp_aload_n (pc := 24) G dX5_readsGate_24 rfl 1 rfl ?_
      refine wp_iload_n (pc := 25) G dX5_readsGate_25 rfl 0 rfl ?_
      refine wm_calli1 (pc := 26) G dX5_readsGate_26 kX5_312 (ct_readsCell hg hL18 hX18 (Or.inr (by rw [z18]; exact (hc2.c h_5).1))) (by decide) (by decide) (Nat.le_of_ble_eq_true rfl) (fun z_26 M_26 h_26 => ?_)
      obtain ⟨hf26, hc26⟩ := h_26
      have hF26 : fr [22, 23] M M_26 := hF18.tr hf26
      have z26 : M_26 0 = M 0 := hF26 0 (by decide)
      have t26 : M_26 20 = M 20 := hF26 20 (by decide)
      have n26 : M_26 21 = M 21 := hF26 21 (by decide)
      rw [z18, t18, n18] at hc26
      have r26 := hc26.r (by omega)
      have hX26 : okX M_26 := hX.to (hF26.up (by decide)) (by omega)
      have hL26 : okL (M_26 0) := by rw [z26]; exact hL
      have y26 : isB z_26 (z_26 = 1) := r26.2.2.elim (fun e => Or.inr ⟨e, by omega⟩) (fun e => Or.inl ⟨e, e⟩)
      refine wp_if_ne (tgt := 34) (pc := 29) G dX5_readsGate_29 y26.r (by decide) (fun h_29 => ?_) (fun h_29 => ?_)
      · have h_29 := y26.t h_29
        refine wp_aload_n (pc := 34) G dX5_readsGate_34 rfl 1 rfl ?_
        refine wm_get_23 (pc := 35) G dX5_readsGate_35 fX5_302_4 ?_
        refine wp_istore_n (L' := [(2, _), (1, _), (0, _)]) (pc := 38) G dX5_readsGate_38 rfl (by decide) rfl ?_
        refine wp_aload_n (pc := 39) G dX5_readsGate_39 rfl 2 rfl ?_
        refine wp_bipush (pc := 40) G dX5_readsGate_40 (by decide) ?_
        refine wm_calli1 (pc := 42) G dX5_readsGate_42 kX5_315 (ct_passes hg hX26 (by omega)) (by decide) (by decide) (Nat.le_of_ble_eq_true rfl) (fun z_42 M_42 h_42 => ?_)
        obtain ⟨hm42, hb42⟩ := h_42
        have hF42 : fr [22, 23] M M_42 := by rw [hm42]; exact hF26.s1 (by decide)
        have z42 : M_42 0 = M 0 := hF42 0 (by decide)
        have t42 : M_42 20 = M 20 := hF42 20 (by decide)
        have n42 : M_42 21 = M 21 := hF42 21 (by decide)
        have p42 : M_42 22 0 = if M_26 22 0 < M_26 21 0 ∧ M_26 20 (M_26 22 0) = 44 then M_26 22 0 + 1 else M_26 22 0 := by rw [hm42]; rfl
        rw [t26, n26] at p42 hb42
        have hb42 : isB z_42 (cpP (M 20) (M 21 0) (M_26 22 0) 44) := hb42
        have py42 : cpP (M 20) (M 21 0) (M_26 22 0) 44 → M_42 22 0 = M_26 22 0 + 1 := fun q => p42.trans (if_pos (c := _ ∧ _) q)
        have pn42 : ¬ cpP (M 20) (M 21 0) (M_26 22 0) 44 → M_42 22 0 = M_26 22 0 := fun q => p42.trans (if_neg (c := _ ∧ _) q)
        have r42 : M_26 22 0 ≤ M_42 22 0 ∧ M_42 22 0 ≤ M 21 0 := by
          by_cases q : cpP (M 20) (M 21 0) (M_26 22 0) 44
          · have := py42 q; have := q.1; omega
          · have := pn42 q; omega
        have hX42 : okX M_42 := hX.to (hF42.up (by decide)) (by omega)
        have hL42 : okL (M_42 0) := by rw [z42]; exact hL
        refine wp_if_eq (tgt := 55) (pc := 45) G dX5_readsGate_45 hb42.r (by decide) (fun h_45 => ?_) (fun h_45 => ?_)
        · have h_45 := hb42.f h_45
          refine wp_iconst (pc := 55) G dX5_readsGate_55 ?_
          first
            | exact wm_zret (pc := 56) G R9 dX5_readsGate_56 (by decide) ⟨hF49.up (by decide), _, _, _, hc2, Or.inr (Or.inr ⟨h_5, h_21, _, _, _, (py18 h_21) ▸ hc26, Or.inr (Or.inr ⟨h_29, h_45, _, _, _, (py42 h_45) ▸ hu49, Or.inl ⟨h_52, rfl, rfl⟩⟩)⟩)⟩
            | exact wm_zret (pc := 56) G R9 dX5_readsGate_56 (by decide) ⟨hF42.up (by decide), _, _, _, hc2, Or.inr (Or.inr ⟨h_5, h_21, _, _, _, (py18 h_21) ▸ hc26, Or.inr (Or.inl ⟨h_29, h_45, rfl, pn42 h_45⟩)⟩)⟩
        · have h_45 := hb42.t h_45
          refine wp_aload_n (pc := 48) G dX5_readsGate_48 rfl 2 rfl ?_
          refine wm_calli0 (pc := 49) G dX5_readsGate_49 kX5_309 (ct_readsNumber hg hX42) (by decide) (by decide) (Nat.le_of_ble_eq_true rfl) (fun z_49 M_49 h_49 => ?_)
          obtain ⟨hz49, hf49, hu49⟩ := h_49
          have hF49 : fr [22, 23] M M_49 := hF42.tr hf49
          have z49 : M_49 0 = M 0 := hF49 0 (by decide)
          have t49 : M_49 20 = M 20 := hF49 20 (by decide)
          have n49 : M_49 21 = M 21 := hF49 21 (by decide)
          rw [t42, n42] at hu49
          have r49 := hu49.r (by omega)
          have hX49 : okX M_49 := hX.to (hF49.up (by decide)) (by omega)
          have hL49 : okL (M_49 0) := by rw [z49]; exact hL
          have y49 : isB z_49 (z_49 = 1) := hz49.elim (fun e => Or.inr ⟨e, by omega⟩) (fun e => Or.inl ⟨e, e⟩)
          refine wp_if_ne (tgt := 57) (pc := 52) G dX5_readsGate_52 y49.r (by decide) (fun h_52 => ?_) (fun h_52 => ?_)
          · have h_52 := y49.t h_52
            refine wp_aload_n (pc := 57) G dX5_readsGate_57 rfl 2 rfl ?_
            refine wm_get_0 (pc := 58) G dX5_readsGate_58 fX5_7_4 ?_
            refine wp_aload_n (pc := 61) G dX5_readsGate_61 rfl 2 rfl ?_
            refine wp_iload_n (pc := 62) G dX5_readsGate_62 rfl 1 rfl ?_
            refine wp_iload_n (pc := 63) G dX5_readsGate_63 rfl 0 rfl ?_
            refine wm_calli2 (pc := 64) G dX5_readsGate_64 kX5_81 (ct_gateAt hg hL49 (by rw [z49]; exact (hc2.c h_5).1) (by rw [z49]; exact (hc26.c h_29).1)) (by decide) (by decide) (Nat.le_of_ble_eq_true rfl) (fun z_64 M_64 h_64 => ?_)
            obtain ⟨rfl, h_64⟩ := h_64
            rw [z49] at h_64
            subst h_64
            have hgr := gat_r hL (hc2.c h_5).1 (hc26.c h_29).1
            refine wp_aload_n (pc := 67) G dX5_readsGate_67 rfl 2 rfl ?_
            refine wm_get_23 (pc := 68) G dX5_readsGate_68 fX5_302_4 ?_
            refine wp_i2l (pc := 71) G dX5_readsGate_71 (by omega) ?_
            refine wm_ast_0 (pc := 72) G dX5_readsGate_72 (by omega) ?_
            refine wp_iconst (pc := 73) G dX5_readsGate_73 ?_
            exact wm_zret (pc := 74) G R9 dX5_readsGate_74 (by decide) ⟨(hF49.up (by decide)).a1 (by decide), _, _, _, hc2, Or.inr (Or.inr ⟨h_5, h_21, _, _, _, (py18 h_21) ▸ hc26, Or.inr (Or.inr ⟨h_29, h_45, _, _, _, (py42 h_45) ▸ hu49, Or.inr ⟨h_52, rfl, rfl, by rw [ma1_s, z49]⟩⟩)⟩)⟩
          · have h_52 := y49.f h_52
            refine wp_iconst (pc := 55) G dX5_readsGate_55 ?_
            first
              | exact wm_zret (pc := 56) G R9 dX5_readsGate_56 (by decide) ⟨hF49.up (by decide), _, _, _, hc2, Or.inr (Or.inr ⟨h_5, h_21, _, _, _, (py18 h_21) ▸ hc26, Or.inr (Or.inr ⟨h_29, h_45, _, _, _, (py42 h_45) ▸ hu49, Or.inl ⟨h_52, rfl, rfl⟩⟩)⟩)⟩
              | exact wm_zret (pc := 56) G R9 dX5_readsGate_56 (by decide) ⟨hF42.up (by decide), _, _, _, hc2, Or.inr (Or.inr ⟨h_5, h_21, _, _, _, (py18 h_21) ▸ hc26, Or.inr (Or.inl ⟨h_29, h_45, rfl, pn42 h_45⟩)⟩)⟩
      · have h_29 := y26.f h_29
        refine wp_iconst (pc := 32) G dX5_readsGate_32 ?_
        first
          | exact wm_zret (pc := 33) G R9 dX5_readsGate_33 (by decide) ⟨hF26.up (by decide), _, _, _, hc2, Or.inr (Or.inr ⟨h_5, h_21, _, _, _, (py18 h_21) ▸ hc26, Or.inl ⟨by omega, rfl, rfl⟩⟩)⟩
          | exact wm_zret (pc := 33) G R9 dX5_readsGate_33 (by decide) ⟨hF18.up (by decide), _, _, _, hc2, Or.inr (Or.inl ⟨h_5, h_21, rfl, pn18 h_21⟩)⟩
  · have h_5 := y2.f h_5
    refine wp_iconst (pc := 8) G dX5_readsGate_8 ?_
    exact wm_zret (pc := 9) G R9 dX5_readsGate_9 (by decide) ⟨hF2.up (by decide), _, _, _, hc2, Or.inl ⟨by omega, rfl, rfl⟩⟩
set_option maxHeartbeats 4000000 in
theorem ct_readsDrain {g : GV} (hg : GOk g) {ad : Nat → Nat} {M : Nat → Int → Int} (hL : okL (M 0)) (hX : okX M) : CMi g ad yX5_readsDrain cX5_readsDrain 2 4 .boolean [] M (fun z M' => fr [0, 22, 23] M M' ∧ (z = 0 ∨ z = 1) ∧ drainP (M 0) (M 20) (M 21 0) (M 22 0) z (M' 22 0) (M' 0)) := by
  refine wm_ofi hg (by decide +kernel) (Nat.le_of_ble_eq_true rfl) (fun F G R9 => ?_)
  have G : FxOk g F cX5_readsDrain RX5 2 4 := G
  refine wp_loc (L' := [(0, _)]) rfl ?_
  have hp9 := hX.2.2
  have hm := hL.m
  have hdr := hL.dr
  refine wp_aload_n (pc := 0) G dX5_readsDrain_0 rfl 0 rfl ?_
  refine wp_iconst (pc := 1) G dX5_readsDrain_1 ?_
  refine wm_calli1 (pc := 2) G dX5_readsDrain_2 kX5_312 (ct_readsCell hg hL hX (Or.inl rfl)) (by decide) (by decide) (Nat.le_of_ble_eq_true rfl) (fun z_2 M_2 h_2 => ?_)
  obtain ⟨hf2, hc2⟩ := h_2
  have hF2 : fr [22, 23] M M_2 := hf2
  have z2 : M_2 0 = M 0 := hF2 0 (by decide)
  have t2 : M_2 20 = M 20 := hF2 20 (by decide)
  have n2 : M_2 21 = M 21 := hF2 21 (by decide)
  have r2 := hc2.r (by omega)
  have hX2 : okX M_2 := hX.to (hF2.up (by decide)) (by omega)
  have hL2 : okL (M_2 0) := by rw [z2]; exact hL
  have y2 : isB z_2 (z_2 = 1) := r2.2.2.elim (fun e => Or.inr ⟨e, by omega⟩) (fun e => Or.inl ⟨e, e⟩)
  refine wp_istore_n (L' := [(1, _), (0, _)]) (pc := 5) G dX5_readsDrain_5 rfl (by decide) rfl ?_
  refine wp_aload_n (pc := 6) G dX5_readsDrain_6 rfl 1 rfl ?_
  refine wm_get_0 (pc := 7) G dX5_readsDrain_7 fX5_7_4 ?_
  refine wp_iconst (pc := 10) G dX5_readsDrain_10 ?_
  refine wp_dup2 (pc := 11) G dX5_readsDrain_11 rfl rfl ?_
  refine wm_ald_0 (pc := 12) G dX5_readsDrain_12 (by omega) ?_
  refine wp_iload_n (pc := 13) G dX5_readsDrain_13 rfl 0 rfl ?_
  refine wp_if_eq (tgt := 26) (pc := 14) G dX5_readsDrain_14 y2.r (by decide) (fun h_14 => ?_) (fun h_14 => ?_)
  · have h_14 := y2.f h_14
    refine wp_lconst0 (pc := 26) G dX5_readsDrain_26 ?_
    refine wp_lor (pc := 27) G dX5_readsDrain_27 (by rw [z2]; omega) (by first | omega | (have := okS_bit (c := M_2 23 0) (by have := (hc2.c h_14).1.lt hL; omega); omega)) ?_
    refine wm_ast_0 (pc := 28) G dX5_readsDrain_28 (by omega) ?_
    refine wp_iload_n (pc := 29) G dX5_readsDrain_29 rfl 0 rfl ?_
    first
      | exact wm_zret (pc := 30) G R9 dX5_readsDrain_30 y2.z ⟨(hF2.up (by decide)).a1 (by decide), y2.z, _, hc2, fun q => absurd q h_14⟩
      | exact wm_zret (pc := 30) G R9 dX5_readsDrain_30 y2.z ⟨(hF2.up (by decide)).a1 (by decide), y2.z, _, hc2, fun _ => by rw [ma1_s, z2]⟩
  · have h_14 := y2.t h_14
    have hcl := (hc2.c h_14).1.lt hL
    refine wp_lconst1 (pc := 17) G dX5_readsDrain_17 ?_
    refine wp_aload_n (pc := 18) G dX5_readsDrain_18 rfl 1 rfl ?_
    refine wm_get_23 (pc := 19) G dX5_readsDrain_19 fX5_302_4 ?_
    refine wp_bit (pc := 22) G dX5_readsDrain_22 (by omega) ?_
    refine wp_goto (tgt := 27) (pc := 23) G dX5_readsDrain_23 (by decide) ?_
    refine wp_lor (pc := 27) G dX5_readsDrain_27 (by rw [z2]; omega) (by first | omega | (have := okS_bit (c := M_2 23 0) (by have := (hc2.c h_14).1.lt hL; omega); omega)) ?_
    refine wm_ast_0 (pc := 28) G dX5_readsDrain_28 (by omega) ?_
    refine wp_iload_n (pc := 29) G dX5_readsDrain_29 rfl 0 rfl ?_
    first
      | exact wm_zret (pc := 30) G R9 dX5_readsDrain_30 y2.z ⟨(hF2.up (by decide)).a1 (by decide), y2.z, _, hc2, fun q => absurd q h_14⟩
      | exact wm_zret (pc := 30) G R9 dX5_readsDrain_30 y2.z ⟨(hF2.up (by decide)).a1 (by decide), y2.z, _, hc2, fun _ => by rw [ma1_s, z2]⟩
