/-! THE MODEL: the text, fourth part -/
set_option maxRecDepth 100000
theorem hsP_s {T : Int → Int} {n m c : Int} {az az' : Int → Int} {p z e : Int} (hc : 0 ≤ c ∧ c < m) (h : (0 < c ∧ ¬ cpP T n p 44 ∧ z = 0 ∧ e = p) ∨ ((c = 0 ∨ cpP T n p 44) ∧ ∃ e1 v q, nuP T n (if c = 0 then p else p + 1) e1 v q ∧ ((¬ q ∧ z = 0 ∧ e = e1) ∨ (q ∧ hsP T n (m - (c + 1)).toNat (fup az (8 + c) v) (c + 1) e1 z e az')))) : hsP T n (m - c).toNat az c p z e az' := by
  rw [show (m - c).toNat = (m - (c + 1)).toNat + 1 by omega]
  exact h
set_option maxHeartbeats 4000000 in
theorem ct_readsHeights {g : GV} (hg : GOk g) {ad : Nat → Nat} {M : Nat → Int → Int} (hL : okL (M 0)) (hX : okX M) : CMi g ad yX5_readsHeights cX5_readsHeights 2 3 .boolean [] M (fun z M' => fr [0, 22, 23] M M' ∧ (z = 0 ∨ z = 1) ∧ hsP (M 20) (M 21 0) (mny (M 0)).toNat (M 0) 0 (M 22 0) z (M' 22 0) (M' 0) ∧ (z = 1 → okL (M' 0) ∧ M' 0 0 = M 0 0 ∧ M' 0 1 = M 0 1)) := by
  refine wm_ofi hg (by decide +kernel) (Nat.le_of_ble_eq_true rfl) (fun F G R9 => ?_)
  have G : FxOk g F cX5_readsHeights RX5 2 3 := G
  refine wp_loc (L' := [(0, _)]) rfl ?_
  have hmm := hL.m
  have loop : ∀ (n : Nat) (c : Int) (M1 : Nat → Int → Int), (0 ≤ c ∧ c ≤ mny (M 0)) → (mny (M 0) + 1 ≤ c + n) → (fr [0, 22, 23] M M1) → (okL (M1 0)) → (M1 0 0 = M 0 0 ∧ M1 0 1 = M 0 1) → (okX M1) → ((∀ z e az, hsP (M 20) (M 21 0) (mny (M 0) - c).toNat (M1 0) c (M1 22 0) z e az → hsP (M 20) (M 21 0) (mny (M 0)).toNat (M 0) 0 (M 22 0) z e az)) → Wp g F [MB g ad M1] 0 0 2 [(1, iV c), (0, .ref (ad 25))] [] := by
    intro n
    induction n with
    | zero =>
      intro c M1 hc hn hf hL1 hd hX1 hgo
      exfalso
      omega
    | succ n ih =>
      intro c M1 hc hn hf hL1 hd hX1 hgo
      have hmm1 : mny (M1 0) = mny (M 0) := by unfold mny; rw [hd.1, hd.2]
      have e20 : M1 20 = M 20 := hf 20 (by decide)
      have e21 : M1 21 = M 21 := hf 21 (by decide)
      have hp1 := hX1.2.2
      rw [e21] at hp1
      refine wp_iload_n (pc := 2) G dX5_readsHeights_2 rfl 0 rfl ?_
      refine wp_aload_n (pc := 3) G dX5_readsHeights_3 rfl 1 rfl ?_
      refine wm_calli0 (pc := 4) G dX5_readsHeights_4 kX5_61 (ct_many hg) (by decide) (by decide) (Nat.le_of_ble_eq_true rfl) (fun z_4 M_4 h_4 => ?_)
      obtain ⟨rfl, h_4⟩ := h_4
      rw [hmm1] at h_4
      subst h_4
      refine wp_icmp_ge (tgt := 52) (pc := 7) G dX5_readsHeights_7 (by omega) (by omega) (by decide) (fun h_7 => ?_) (fun h_7 => ?_)
      · refine wp_iconst (pc := 52) G dX5_readsHeights_52 ?_
        exact wm_zret (pc := 53) G R9 dX5_readsHeights_53 (by decide) ⟨hf, by decide, hgo _ _ _ (by rw [show mny (M 0) - c = 0 by omega]; exact ⟨rfl, rfl, rfl⟩), fun _ => ⟨hL1, hd⟩⟩
      · have J24 : ∀ (M2 : Nat → Int → Int), (fr [0, 22, 23] M M2) → (M2 0 = M1 0) → (okX M2) → ((c = 0 ∧ M2 22 0 = M1 22 0) ∨ (0 < c ∧ cpP (M 20) (M 21 0) (M1 22 0) 44 ∧ M2 22 0 = M1 22 0 + 1)) → Wp g F [MB g ad M2] 0 0 23 [(1, iV c), (0, .ref (ad 25))] [] := by
          intro M2 hF2 z2 hX2 hp2
          refine wp_aload_n (pc := 23) G dX5_readsHeights_23 rfl 1 rfl ?_
          refine wm_calli0 (pc := 24) G dX5_readsHeights_24 kX5_309 (ct_readsNumber hg hX2) (by decide) (by decide) (Nat.le_of_ble_eq_true rfl) (fun z_24 M_24 h_24 => ?_)
          obtain ⟨hz24, hf24, hu24⟩ := h_24
          have t2 : M2 20 = M 20 := hF2 20 (by decide)
          have n2 : M2 21 = M 21 := hF2 21 (by decide)
          rw [t2, n2] at hu24
          have hF24 : fr [0, 22, 23] M M_24 := hF2.tr (hf24.up (by decide))
          have z24 : M_24 0 = M1 0 := (hf24 0 (by decide)).trans z2
          have r24 := hu24.r (by rw [← n2]; exact hX2.2.2.2)
          have hX24 : okX M_24 := hX.to (hF24.up (by decide)) (by have := hX2.2.2.1; omega)
          have y24 : isB z_24 (z_24 = 1) := hz24.elim (fun e => Or.inr ⟨e, by omega⟩) (fun e => Or.inl ⟨e, e⟩)
          have hu24 : nuP (M 20) (M 21 0) (if c = 0 then M1 22 0 else M1 22 0 + 1) (M_24 22 0) (M_24 23 0) (z_24 = 1) := by
            rcases hp2 with ⟨q1, q2⟩ | ⟨q1, q2, q3⟩
            · rw [if_pos q1, ← q2]; exact hu24
            · rw [if_neg (by omega), ← q3]; exact hu24
          have hcp : c = 0 ∨ cpP (M 20) (M 21 0) (M1 22 0) 44 := hp2.imp (fun q => q.1) (fun q => q.2.1)
          refine wp_if_ne (tgt := 32) (pc := 27) G dX5_readsHeights_27 y24.r (by decide) (fun h_27 => ?_) (fun h_27 => ?_)
          · have h_27 := y24.t h_27
            refine wp_aload_n (pc := 32) G dX5_readsHeights_32 rfl 1 rfl ?_
            refine wm_get_0 (pc := 33) G dX5_readsHeights_33 fX5_7_4 ?_
            refine wp_bipush (pc := 36) G dX5_readsHeights_36 (by decide) ?_
            refine wp_iload_n (pc := 38) G dX5_readsHeights_38 rfl 0 rfl ?_
            refine wp_iadd (pc := 39) G dX5_readsHeights_39 ?_
            refine wp_aload_n (pc := 40) G dX5_readsHeights_40 rfl 1 rfl ?_
            refine wm_get_23 (pc := 41) G dX5_readsHeights_41 fX5_302_4 ?_
            refine wp_i2l (pc := 44) G dX5_readsHeights_44 (by omega) ?_
            refine wm_ast_0 (pc := 45) G dX5_readsHeights_45 (by omega) ?_
            refine wp_iinc (L' := [(1, _), (0, _)]) (pc := 46) G dX5_readsHeights_46 0 rfl (by decide) rfl ?_
            refine wp_goto (tgt := 2) (pc := 49) G dX5_readsHeights_49 (by decide) ?_
            refine ih (c + 1) _ (by omega) (by omega) (hF24.a1 (by decide)) (by rw [ma1_s, z24]; exact hL1.put_h (by omega) r24.2) (by rw [ma1_s, z24, fup_n _ _ (by omega), fup_n _ _ (by omega)]; exact hd) ⟨hX24.1, hX24.2.1, hX24.2.2⟩ (fun z e az h => hgo z e az (hsP_s ⟨hc.1, h_7⟩ (Or.inr ⟨hcp, _, _, _, hu24, Or.inr ⟨h_27, ?_⟩⟩)))
            rw [ma1_s, z24] at h
            exact h
          · have h_27 := y24.f h_27
            refine wp_iconst (pc := 30) G dX5_readsHeights_30 ?_
            exact wm_zret (pc := 31) G R9 dX5_readsHeights_31 (by decide) ⟨hF24, by decide, hgo _ _ _ (hsP_s ⟨hc.1, h_7⟩ (Or.inr ⟨hcp, _, _, _, hu24, Or.inl ⟨h_27, rfl, rfl⟩⟩)), fun q => absurd q (by decide)⟩
        refine wp_iload_n (pc := 10) G dX5_readsHeights_10 rfl 0 rfl ?_
        refine wp_if_le (tgt := 23) (pc := 11) G dX5_readsHeights_11 (by omega) (by decide) (fun h_11 => ?_) (fun h_11 => ?_)
        · first
            | exact J24 M1 hf rfl hX1 (Or.inl ⟨by omega, rfl⟩)
            | exact J24 M_17 hF17 z17 hX17 (Or.inr ⟨by omega, h_20, py17 h_20⟩)
        · refine wp_aload_n (pc := 14) G dX5_readsHeights_14 rfl 1 rfl ?_
          refine wp_bipush (pc := 15) G dX5_readsHeights_15 (by decide) ?_
          refine wm_calli1 (pc := 17) G dX5_readsHeights_17 kX5_315 (ct_passes hg hX1 (by omega)) (by decide) (by decide) (Nat.le_of_ble_eq_true rfl) (fun z_17 M_17 h_17 => ?_)
          obtain ⟨hm17, hb17⟩ := h_17
          have hF17 : fr [0, 22, 23] M M_17 := by rw [hm17]; exact hf.s1 (by decide)
          have z17 : M_17 0 = M1 0 := by rw [hm17]; rfl
          have t17 : M_17 20 = M 20 := hF17 20 (by decide)
          have n17 : M_17 21 = M 21 := hF17 21 (by decide)
          have p17 : M_17 22 0 = if M1 22 0 < M1 21 0 ∧ M1 20 (M1 22 0) = 44 then M1 22 0 + 1 else M1 22 0 := by rw [hm17]; rfl
          rw [e20, e21] at p17 hb17
          have hb17 : isB z_17 (cpP (M 20) (M 21 0) (M1 22 0) 44) := hb17
          have py17 : cpP (M 20) (M 21 0) (M1 22 0) 44 → M_17 22 0 = M1 22 0 + 1 := fun q => p17.trans (if_pos (c := _ ∧ _) q)
          have pn17 : ¬ cpP (M 20) (M 21 0) (M1 22 0) 44 → M_17 22 0 = M1 22 0 := fun q => p17.trans (if_neg (c := _ ∧ _) q)
          have r17 : M1 22 0 ≤ M_17 22 0 ∧ M_17 22 0 ≤ M 21 0 := by
            by_cases q : cpP (M 20) (M 21 0) (M1 22 0) 44
            · have := py17 q; have := q.1; omega
            · have := pn17 q; omega
          have hX17 : okX M_17 := hX.to (hF17.up (by decide)) (by omega)
          refine wp_if_eq (tgt := 30) (pc := 20) G dX5_readsHeights_20 hb17.r (by decide) (fun h_20 => ?_) (fun h_20 => ?_)
          · have h_20 := hb17.f h_20
            refine wp_iconst (pc := 30) G dX5_readsHeights_30 ?_
            exact wm_zret (pc := 31) G R9 dX5_readsHeights_31 (by decide) ⟨hF17, by decide, hgo _ _ _ (hsP_s ⟨hc.1, h_7⟩ (Or.inl ⟨by omega, h_20, rfl, pn17 h_20⟩)), fun q => absurd q (by decide)⟩
          · have h_20 := hb17.t h_20
            first
              | exact J24 M1 hf rfl hX1 (Or.inl ⟨by omega, rfl⟩)
              | exact J24 M_17 hF17 z17 hX17 (Or.inr ⟨by omega, h_20, py17 h_20⟩)
  refine wp_iconst (pc := 0) G dX5_readsHeights_0 ?_
  refine wp_istore_n (L' := [(1, _), (0, _)]) (pc := 1) G dX5_readsHeights_1 rfl (by decide) rfl ?_
  exact loop 37 0 M (by omega) (by omega) fr.rf hL ⟨rfl, rfl⟩ hX (fun z e az h => by rw [Int.sub_zero] at h; exact h)
