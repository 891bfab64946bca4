/-! THE MODEL: the text, second part -/
set_option maxRecDepth 100000
theorem nuP.iff {T : Int → Int} {n p e v : Int} {q q' : Prop} (h : nuP T n p e v q) (e9 : q ↔ q') : nuP T n p e v q' := by
  rw [← propext e9]
  exact h
set_option maxHeartbeats 4000000 in
theorem ct_readsCell {g : GV} (hg : GOk g) {ad : Nat → Nat} {M : Nat → Int → Int} (hL : okL (M 0)) (hX : okX M) {f : Int} (hfr : f = -1 ∨ isC (M 0) f) : CMi g ad yX5_readsCell cX5_readsCell 4 3 .boolean [iV f] M (fun z M' => fr [22, 23] M M' ∧ cellP (M 0) (M 20) (M 21 0) (M 22 0) f z (M' 22 0) (M' 23 0)) := by
  refine wm_ofi hg (by decide +kernel) (Nat.le_of_ble_eq_true rfl) (fun F G R9 => ?_)
  have G : FxOk g F cX5_readsCell RX5 4 3 := G
  refine wp_loc (L' := [(0, _), (1, _)]) rfl ?_
  have hfb : -1 ≤ f ∧ f < 36 := by
    rcases hfr with h | h
    · omega
    · have := h.lt hL; omega
  refine wp_aload_n (pc := 0) G dX5_readsCell_0 rfl 0 rfl ?_
  refine wm_get_22 (pc := 1) G dX5_readsCell_1 fX5_291_4 ?_
  refine wp_istore_n (L' := [(2, _), (0, _), (1, _)]) (pc := 4) G dX5_readsCell_4 rfl (by decide) rfl ?_
  refine wp_aload_n (pc := 5) G dX5_readsCell_5 rfl 1 rfl ?_
  refine wm_calli0 (pc := 6) G dX5_readsCell_6 kX5_309 (ct_readsNumber hg hX) (by decide) (by decide) (Nat.le_of_ble_eq_true rfl) (fun z_6 M_6 h_6 => ?_)
  obtain ⟨hnz, hf1, hnu⟩ := h_6
  generalize M_6 = M1 at hf1 hnu ⊢
  have hnr := hnu.r hX.2.2.2
  have hz : M1 0 = M 0 := hf1 0 (by decide)
  have hL1 : okL (M1 0) := by rw [hz]; exact hL
  have hm := hL.m
  refine wp_if_ne (tgt := 14) (pc := 9) G dX5_readsCell_9 (by rcases hnz with e | e <;> omega) (by decide) (fun h_9 => ?_) (fun h_9 => ?_)
  · refine wp_aload_n (pc := 14) G dX5_readsCell_14 rfl 1 rfl ?_
    refine wp_aload_n (pc := 15) G dX5_readsCell_15 rfl 1 rfl ?_
    refine wm_get_23 (pc := 16) G dX5_readsCell_16 fX5_302_4 ?_
    refine wm_calli1 (pc := 19) G dX5_readsCell_19 kX5_73 (ct_isCell hg hL1 (by omega)) (by decide) (by decide) (Nat.le_of_ble_eq_true rfl) (fun z_19 M_19 h_19 => ?_)
    obtain ⟨rfl, h_19⟩ := h_19
    rw [hz] at h_19
    refine wp_if_eq (tgt := 46) (pc := 22) G dX5_readsCell_22 h_19.r (by decide) (fun h_22 => ?_) (fun h_22 => ?_)
    · have h_22 := h_19.f h_22
      refine wp_iconst (pc := 46) G dX5_readsCell_46 ?_
      refine wp_istore_n (L' := [(3, _), (2, _), (0, _), (1, _)]) (pc := 47) G dX5_readsCell_47 rfl (by decide) rfl ?_
      refine wp_aload_n (pc := 48) G dX5_readsCell_48 rfl 2 rfl ?_
      refine wp_iload_n (pc := 49) G dX5_readsCell_49 rfl 0 rfl ?_
      refine wp_if_eq (tgt := 60) (pc := 50) G dX5_readsCell_50 (by omega) (by decide) (fun h_50 => ?_) (fun h_50 => ?_)
      · refine wp_iload_n (pc := 60) G dX5_readsCell_60 rfl 1 rfl ?_
        refine wm_put_22 (pc := 61) G dX5_readsCell_61 fX5_291_4 ?_
        refine wp_iload_n (pc := 64) G dX5_readsCell_64 rfl 0 rfl ?_
        first
          | exact absurd h_50 (by decide)
          | exact wm_zret (pc := 65) G R9 dX5_readsCell_65 (by decide) ⟨hf1.s1 (by decide), _, _, hnu, Or.inr (Or.inl ⟨by omega, ⟨h_22, Or.inl h_27⟩, rfl, rfl⟩)⟩
          | exact wm_zret (pc := 65) G R9 dX5_readsCell_65 (by decide) ⟨hf1.s1 (by decide), _, _, hnu, Or.inr (Or.inl ⟨by omega, ⟨h_22, Or.inr h_39⟩, rfl, rfl⟩)⟩
          | exact wm_zret (pc := 65) G R9 dX5_readsCell_65 (by decide) ⟨hf1.s1 (by decide), _, _, hnu, Or.inr (Or.inr ⟨by omega, fun q => by first | exact h_22 q.1 | exact h_39 (q.2.resolve_left h_27), rfl, rfl⟩)⟩
      · refine wp_aload_n (pc := 53) G dX5_readsCell_53 rfl 2 rfl ?_
        refine wm_get_22 (pc := 54) G dX5_readsCell_54 fX5_291_4 ?_
        refine wp_goto (tgt := 61) (pc := 57) G dX5_readsCell_57 (by decide) ?_
        refine wm_put_22 (pc := 61) G dX5_readsCell_61 fX5_291_4 ?_
        refine wp_iload_n (pc := 64) G dX5_readsCell_64 rfl 0 rfl ?_
        first
          | exact absurd h_50 (by decide)
          | exact wm_zret (pc := 65) G R9 dX5_readsCell_65 (by decide) ⟨hf1.s1 (by decide), _, _, hnu, Or.inr (Or.inl ⟨by omega, ⟨h_22, Or.inl h_27⟩, rfl, rfl⟩)⟩
          | exact wm_zret (pc := 65) G R9 dX5_readsCell_65 (by decide) ⟨hf1.s1 (by decide), _, _, hnu, Or.inr (Or.inl ⟨by omega, ⟨h_22, Or.inr h_39⟩, rfl, rfl⟩)⟩
          | exact wm_zret (pc := 65) G R9 dX5_readsCell_65 (by decide) ⟨hf1.s1 (by decide), _, _, hnu, Or.inr (Or.inr ⟨by omega, fun q => by first | exact h_22 q.1 | exact h_39 (q.2.resolve_left h_27), rfl, rfl⟩)⟩
    · have h_22 := h_19.t h_22
      refine wp_iload_n (pc := 25) G dX5_readsCell_25 rfl 2 rfl ?_
      refine wp_iconst (pc := 26) G dX5_readsCell_26 ?_
      refine wp_icmp_eq (tgt := 42) (pc := 27) G dX5_readsCell_27 (by omega) (by omega) (by decide) (fun h_27 => ?_) (fun h_27 => ?_)
      · refine wp_iconst (pc := 42) G dX5_readsCell_42 ?_
        refine wp_goto (tgt := 47) (pc := 43) G dX5_readsCell_43 (by decide) ?_
        refine wp_istore_n (L' := [(3, _), (2, _), (0, _), (1, _)]) (pc := 47) G dX5_readsCell_47 rfl (by decide) rfl ?_
        refine wp_aload_n (pc := 48) G dX5_readsCell_48 rfl 2 rfl ?_
        refine wp_iload_n (pc := 49) G dX5_readsCell_49 rfl 0 rfl ?_
        refine wp_if_eq (tgt := 60) (pc := 50) G dX5_readsCell_50 (by omega) (by decide) (fun h_50 => ?_) (fun h_50 => ?_)
        · refine wp_iload_n (pc := 60) G dX5_readsCell_60 rfl 1 rfl ?_
          refine wm_put_22 (pc := 61) G dX5_readsCell_61 fX5_291_4 ?_
          refine wp_iload_n (pc := 64) G dX5_readsCell_64 rfl 0 rfl ?_
          first
            | exact absurd h_50 (by decide)
            | exact wm_zret (pc := 65) G R9 dX5_readsCell_65 (by decide) ⟨hf1.s1 (by decide), _, _, hnu, Or.inr (Or.inl ⟨by omega, ⟨h_22, Or.inl h_27⟩, rfl, rfl⟩)⟩
            | exact wm_zret (pc := 65) G R9 dX5_readsCell_65 (by decide) ⟨hf1.s1 (by decide), _, _, hnu, Or.inr (Or.inl ⟨by omega, ⟨h_22, Or.inr h_39⟩, rfl, rfl⟩)⟩
            | exact wm_zret (pc := 65) G R9 dX5_readsCell_65 (by decide) ⟨hf1.s1 (by decide), _, _, hnu, Or.inr (Or.inr ⟨by omega, fun q => by first | exact h_22 q.1 | exact h_39 (q.2.resolve_left h_27), rfl, rfl⟩)⟩
        · refine wp_aload_n (pc := 53) G dX5_readsCell_53 rfl 2 rfl ?_
          refine wm_get_22 (pc := 54) G dX5_readsCell_54 fX5_291_4 ?_
          refine wp_goto (tgt := 61) (pc := 57) G dX5_readsCell_57 (by decide) ?_
          refine wm_put_22 (pc := 61) G dX5_readsCell_61 fX5_291_4 ?_
          refine wp_iload_n (pc := 64) G dX5_readsCell_64 rfl 0 rfl ?_
          first
            | exact absurd h_50 (by decide)
            | exact wm_zret (pc := 65) G R9 dX5_readsCell_65 (by decide) ⟨hf1.s1 (by decide), _, _, hnu, Or.inr (Or.inl ⟨by omega, ⟨h_22, Or.inl h_27⟩, rfl, rfl⟩)⟩
            | exact wm_zret (pc := 65) G R9 dX5_readsCell_65 (by decide) ⟨hf1.s1 (by decide), _, _, hnu, Or.inr (Or.inl ⟨by omega, ⟨h_22, Or.inr h_39⟩, rfl, rfl⟩)⟩
            | exact wm_zret (pc := 65) G R9 dX5_readsCell_65 (by decide) ⟨hf1.s1 (by decide), _, _, hnu, Or.inr (Or.inr ⟨by omega, fun q => by first | exact h_22 q.1 | exact h_39 (q.2.resolve_left h_27), rfl, rfl⟩)⟩
      · refine wp_aload_n (pc := 30) G dX5_readsCell_30 rfl 1 rfl ?_
        refine wp_iload_n (pc := 31) G dX5_readsCell_31 rfl 2 rfl ?_
        refine wp_aload_n (pc := 32) G dX5_readsCell_32 rfl 1 rfl ?_
        refine wm_get_23 (pc := 33) G dX5_readsCell_33 fX5_302_4 ?_
        refine wm_calli2 (pc := 36) G dX5_readsCell_36 kX5_77 (ct_areNeighbors hg hL1 (by rw [hz]; exact hfr.resolve_left h_27) (by omega)) (by decide) (by decide) (Nat.le_of_ble_eq_true rfl) (fun z_36 M_36 h_36 => ?_)
        obtain ⟨rfl, h_36⟩ := h_36
        rw [hz] at h_36
        refine wp_if_eq (tgt := 46) (pc := 39) G dX5_readsCell_39 h_36.r (by decide) (fun h_39 => ?_) (fun h_39 => ?_)
        · have h_39 := h_36.f h_39
          refine wp_iconst (pc := 46) G dX5_readsCell_46 ?_
          refine wp_istore_n (L' := [(3, _), (2, _), (0, _), (1, _)]) (pc := 47) G dX5_readsCell_47 rfl (by decide) rfl ?_
          refine wp_aload_n (pc := 48) G dX5_readsCell_48 rfl 2 rfl ?_
          refine wp_iload_n (pc := 49) G dX5_readsCell_49 rfl 0 rfl ?_
          refine wp_if_eq (tgt := 60) (pc := 50) G dX5_readsCell_50 (by omega) (by decide) (fun h_50 => ?_) (fun h_50 => ?_)
          · refine wp_iload_n (pc := 60) G dX5_readsCell_60 rfl 1 rfl ?_
            refine wm_put_22 (pc := 61) G dX5_readsCell_61 fX5_291_4 ?_
            refine wp_iload_n (pc := 64) G dX5_readsCell_64 rfl 0 rfl ?_
            first
              | exact absurd h_50 (by decide)
              | exact wm_zret (pc := 65) G R9 dX5_readsCell_65 (by decide) ⟨hf1.s1 (by decide), _, _, hnu, Or.inr (Or.inl ⟨by omega, ⟨h_22, Or.inl h_27⟩, rfl, rfl⟩)⟩
              | exact wm_zret (pc := 65) G R9 dX5_readsCell_65 (by decide) ⟨hf1.s1 (by decide), _, _, hnu, Or.inr (Or.inl ⟨by omega, ⟨h_22, Or.inr h_39⟩, rfl, rfl⟩)⟩
              | exact wm_zret (pc := 65) G R9 dX5_readsCell_65 (by decide) ⟨hf1.s1 (by decide), _, _, hnu, Or.inr (Or.inr ⟨by omega, fun q => by first | exact h_22 q.1 | exact h_39 (q.2.resolve_left h_27), rfl, rfl⟩)⟩
          · refine wp_aload_n (pc := 53) G dX5_readsCell_53 rfl 2 rfl ?_
            refine wm_get_22 (pc := 54) G dX5_readsCell_54 fX5_291_4 ?_
            refine wp_goto (tgt := 61) (pc := 57) G dX5_readsCell_57 (by decide) ?_
            refine wm_put_22 (pc := 61) G dX5_readsCell_61 fX5_291_4 ?_
            refine wp_iload_n (pc := 64) G dX5_readsCell_64 rfl 0 rfl ?_
            first
              | exact absurd h_50 (by decide)
              | exact wm_zret (pc := 65) G R9 dX5_readsCell_65 (by decide) ⟨hf1.s1 (by decide), _, _, hnu, Or.inr (Or.inl ⟨by omega, ⟨h_22, Or.inl h_27⟩, rfl, rfl⟩)⟩
              | exact wm_zret (pc := 65) G R9 dX5_readsCell_65 (by decide) ⟨hf1.s1 (by decide), _, _, hnu, Or.inr (Or.inl ⟨by omega, ⟨h_22, Or.inr h_39⟩, rfl, rfl⟩)⟩
              | exact wm_zret (pc := 65) G R9 dX5_readsCell_65 (by decide) ⟨hf1.s1 (by decide), _, _, hnu, Or.inr (Or.inr ⟨by omega, fun q => by first | exact h_22 q.1 | exact h_39 (q.2.resolve_left h_27), rfl, rfl⟩)⟩
        · have h_39 := h_36.t h_39
          refine wp_iconst (pc := 42) G dX5_readsCell_42 ?_
          refine wp_goto (tgt := 47) (pc := 43) G dX5_readsCell_43 (by decide) ?_
          refine wp_istore_n (L' := [(3, _), (2, _), (0, _), (1, _)]) (pc := 47) G dX5_readsCell_47 rfl (by decide) rfl ?_
          refine wp_aload_n (pc := 48) G dX5_readsCell_48 rfl 2 rfl ?_
          refine wp_iload_n (pc := 49) G dX5_readsCell_49 rfl 0 rfl ?_
          refine wp_if_eq (tgt := 60) (pc := 50) G dX5_readsCell_50 (by omega) (by decide) (fun h_50 => ?_) (fun h_50 => ?_)
          · refine wp_iload_n (pc := 60) G dX5_readsCell_60 rfl 1 rfl ?_
            refine wm_put_22 (pc := 61) G dX5_readsCell_61 fX5_291_4 ?_
            refine wp_iload_n (pc := 64) G dX5_readsCell_64 rfl 0 rfl ?_
            first
              | exact absurd h_50 (by decide)
              | exact wm_zret (pc := 65) G R9 dX5_readsCell_65 (by decide) ⟨hf1.s1 (by decide), _, _, hnu, Or.inr (Or.inl ⟨by omega, ⟨h_22, Or.inl h_27⟩, rfl, rfl⟩)⟩
              | exact wm_zret (pc := 65) G R9 dX5_readsCell_65 (by decide) ⟨hf1.s1 (by decide), _, _, hnu, Or.inr (Or.inl ⟨by omega, ⟨h_22, Or.inr h_39⟩, rfl, rfl⟩)⟩
              | exact wm_zret (pc := 65) G R9 dX5_readsCell_65 (by decide) ⟨hf1.s1 (by decide), _, _, hnu, Or.inr (Or.inr ⟨by omega, fun q => by first | exact h_22 q.1 | exact h_39 (q.2.resolve_left h_27), rfl, rfl⟩)⟩
          · refine wp_aload_n (pc := 53) G dX5_readsCell_53 rfl 2 rfl ?_
            refine wm_get_22 (pc := 54) G dX5_readsCell_54 fX5_291_4 ?_
            refine wp_goto (tgt := 61) (pc := 57) G dX5_readsCell_57 (by decide) ?_
            refine wm_put_22 (pc := 61) G dX5_readsCell_61 fX5_291_4 ?_
            refine wp_iload_n (pc := 64) G dX5_readsCell_64 rfl 0 rfl ?_
            first
              | exact absurd h_50 (by decide)
              | exact wm_zret (pc := 65) G R9 dX5_readsCell_65 (by decide) ⟨hf1.s1 (by decide), _, _, hnu, Or.inr (Or.inl ⟨by omega, ⟨h_22, Or.inl h_27⟩, rfl, rfl⟩)⟩
              | exact wm_zret (pc := 65) G R9 dX5_readsCell_65 (by decide) ⟨hf1.s1 (by decide), _, _, hnu, Or.inr (Or.inl ⟨by omega, ⟨h_22, Or.inr h_39⟩, rfl, rfl⟩)⟩
              | exact wm_zret (pc := 65) G R9 dX5_readsCell_65 (by decide) ⟨hf1.s1 (by decide), _, _, hnu, Or.inr (Or.inr ⟨by omega, fun q => by first | exact h_22 q.1 | exact h_39 (q.2.resolve_left h_27), rfl, rfl⟩)⟩
  · refine wp_iconst (pc := 12) G dX5_readsCell_12 ?_
    exact wm_zret (pc := 13) G R9 dX5_readsCell_13 (by decide) ⟨hf1, _, _, hnu, Or.inl ⟨by omega, rfl, rfl⟩⟩
