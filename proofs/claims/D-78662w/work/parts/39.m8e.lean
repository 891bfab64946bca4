/-! THE MODEL: reads, parse, append, undo -/
set_option maxRecDepth 100000
theorem szP_r {T : Int → Int} {n p : Int} (h : szP T n p) : p < n ∧ 49 ≤ T p ∧ T p < 55 := by
  unfold szP at h; omega

theorem hsP_r {T : Int → Int} {n : Int} : ∀ (k : Nat) {az : Int → Int} {c p z e : Int} {az' : Int → Int}, p ≤ n → 0 ≤ c → hsP T n k az c p z e az' → p ≤ e ∧ e ≤ n
  | 0, _, _, _, _, _, _, hp, _, h => by have := h.2.1; omega
  | k + 1, _, c, p, _, _, _, hp, hc, h => by
    rcases h with ⟨h1, h2, h3, h4⟩ | ⟨h1, e1, v, q, h2, h3⟩
    · omega
    · have hp2 : p ≤ (if c = 0 then p else p + 1) ∧ (if c = 0 then p else p + 1) ≤ n := by
        split
        · omega
        · rcases h1 with h1 | h1
          · contradiction
          · have := h1.1; omega
      have h9 := (h2.r hp2.2).1
      rcases h3 with ⟨_, _, h3⟩ | ⟨_, h3⟩
      · omega
      · have := hsP_r k (by omega) (by omega) h3
        omega
set_option maxHeartbeats 4000000 in
theorem ct_reads {g : GV} (hg : GOk g) {ad : Nat → Nat} {M : Nat → Int → Int} (hX : okX0 M) : CMi g ad yX5_reads cX5_reads 3 9 .boolean [] M (fun z M' => fr [0, 5, 22, 23] M M' ∧ (z = 0 ∨ z = 1) ∧ readP (M 20) (M 21 0) z (M' 22 0) (M' 0) ∧ (z = 1 → okL (M' 0))) := by
  refine wm_ofi hg (by decide +kernel) (Nat.le_of_ble_eq_true rfl) (fun F G R9 => ?_)
  have G : FxOk g F cX5_reads RX5 3 9 := G
  refine wp_loc (L' := [(0, _)]) rfl ?_
  have ht9 := hX.2
  have hn9 := hX.1
  refine wp_aload_n (pc := 0) G dX5_reads_0 rfl 0 rfl ?_
  refine wp_iconst (pc := 1) G dX5_reads_1 ?_
  refine wm_put_22 (pc := 2) G dX5_reads_2 fX5_291_4 ?_
  obtain ⟨M1, hM1⟩ : ∃ X, X = ms1 M 22 0 := ⟨_, rfl⟩
  rw [← hM1]
  have hF1 : fr [0, 5, 22, 23] M M1 := by rw [hM1]; exact fr.rf.s1 (by decide)
  have t1 : M1 20 = M 20 := hF1 20 (by decide)
  have n1 : M1 21 = M 21 := hF1 21 (by decide)
  have p1 : M1 22 0 = 0 := by rw [hM1]; rfl
  have hX1 : okX M1 := hX.to hF1 (by omega)
  refine wp_aload_n (pc := 5) G dX5_reads_5 rfl 0 rfl ?_
  refine wm_calli0 (pc := 6) G dX5_reads_6 kX5_318 (ct_readsSize hg hX1) (by decide) (by decide) (Nat.le_of_ble_eq_true rfl) (fun z_6 M_6 h_6 => ?_)
  obtain ⟨hf6, hb6, hy6, hn6⟩ := h_6
  have hF6 : fr [0, 5, 22, 23] M M_6 := hF1.tr (hf6.up (by decide))
  have t6 : M_6 20 = M 20 := hF6 20 (by decide)
  have n6 : M_6 21 = M 21 := hF6 21 (by decide)
  rw [t1, n1] at hb6
  rw [t1] at hy6
  rw [p1] at hb6 hy6 hn6
  have hX6 : okX M_6 := hX.to hF6 (by
    rcases hb6 with ⟨q1, q2⟩ | ⟨q1, q2⟩
    · have := hy6 q1; have := q2.1; omega
    · have := hn6 q1; omega)
  refine wp_if_ne (tgt := 14) (pc := 9) G dX5_reads_9 hb6.r (by decide) (fun h_9 => ?_) (fun h_9 => ?_)
  · have h_9 := hb6.t h_9
    have e6 := hy6 (hb6.elim (fun q => q.1) (fun q => absurd h_9 q.2))
    have w9 := szP_r h_9
    refine wp_aload_n (pc := 14) G dX5_reads_14 rfl 0 rfl ?_
    refine wm_get_23 (pc := 15) G dX5_reads_15 fX5_302_4 ?_
    refine wp_istore_n (L' := [(1, _), (0, _)]) (pc := 18) G dX5_reads_18 rfl (by decide) rfl ?_
    refine wp_aload_n (pc := 19) G dX5_reads_19 rfl 1 rfl ?_
    refine wm_calli0 (pc := 20) G dX5_reads_20 kX5_318 (ct_readsSize hg hX6) (by decide) (by decide) (Nat.le_of_ble_eq_true rfl) (fun z_20 M_20 h_20 => ?_)
    obtain ⟨hf20, hb20, hy20, hn20⟩ := h_20
    have hF20 : fr [0, 5, 22, 23] M M_20 := hF6.tr (hf20.up (by decide))
    have t20 : M_20 20 = M 20 := hF20 20 (by decide)
    have n20 : M_20 21 = M 21 := hF20 21 (by decide)
    rw [t6, n6] at hb20
    rw [t6] at hy20
    rw [e6.2] at hb20 hy20 hn20
    have hX20 : okX M_20 := hX.to hF20 (by
      rcases hb20 with ⟨q1, q2⟩ | ⟨q1, q2⟩
      · have := hy20 q1; have := q2.1; omega
      · have := hn20 q1; omega)
    refine wp_if_ne (tgt := 28) (pc := 23) G dX5_reads_23 hb20.r (by decide) (fun h_23 => ?_) (fun h_23 => ?_)
    · have h_23 := hb20.t h_23
      have e20 := hy20 (hb20.elim (fun q => q.1) (fun q => absurd h_23 q.2))
      have w23 := szP_r h_23
      have e61 := e6.1
      have e201 := e20.1
      refine wp_aload_n (pc := 28) G dX5_reads_28 rfl 1 rfl ?_
      refine wp_iload_n (pc := 29) G dX5_reads_29 rfl 0 rfl ?_
      refine wp_aload_n (pc := 30) G dX5_reads_30 rfl 1 rfl ?_
      refine wm_get_23 (pc := 31) G dX5_reads_31 fX5_302_4 ?_
      refine wm_callv2 (pc := 34) G dX5_reads_34 kX5_50 (ct_begins hg (by omega) (by omega)) (by decide) (by decide) (Nat.le_of_ble_eq_true rfl) (fun M_34 h_34 => ?_)
      obtain ⟨hf34, az0, hba, hfo⟩ := h_34
      have i01 : (0 : Int) + 1 = 1 := rfl
      rw [i01] at e201 w23
      rw [e61, e201] at hba
      have hF34 : fr [0, 5, 22, 23] M M_34 := hF20.tr (hf34.up (by decide))
      have t34 : M_34 20 = M 20 := hF34 20 (by decide)
      have n34 : M_34 21 = M 21 := hF34 21 (by decide)
      have hp34 : M_34 22 0 = 2 := by rw [hf34 22 (by decide)]; exact e20.2
      have hX34 : okX M_34 := hX.to hF34 (by have := h_23.1; omega)
      have hb0 := hba.ok (w := M 20 0 - 48) (h := M 20 1 - 48) ⟨by omega, by omega⟩ ⟨by omega, by omega⟩
      have hL34 : okL (M_34 0) := (hfo.same hb0).ok hb0
      have d34 : M_34 0 0 = M 20 0 - 48 ∧ M_34 0 1 = M 20 1 - 48 := ⟨(hfo.same hb0).1.trans hba.1, (hfo.same hb0).2.1.trans hba.2.1⟩
      refine wp_aload_n (pc := 37) G dX5_reads_37 rfl 1 rfl ?_
      refine wp_bipush (pc := 38) G dX5_reads_38 (by decide) ?_
      refine wm_calli1 (pc := 40) G dX5_reads_40 kX5_315 (ct_passes hg hX34 (by omega)) (by decide) (by decide) (Nat.le_of_ble_eq_true rfl) (fun z_40 M_40 h_40 => ?_)
      obtain ⟨hm40, hb40⟩ := h_40
      have hF40 : fr [0, 5, 22, 23] M M_40 := by rw [hm40]; exact hF34.s1 (by decide)
      have z40 : M_40 0 = M_34 0 := by rw [hm40]; rfl
      have t40 : M_40 20 = M 20 := hF40 20 (by decide)
      have n40 : M_40 21 = M 21 := hF40 21 (by decide)
      have p40 : M_40 22 0 = if M_34 22 0 < M_34 21 0 ∧ M_34 20 (M_34 22 0) = 58 then M_34 22 0 + 1 else M_34 22 0 := by rw [hm40]; rfl
      rw [t34, n34] at p40 hb40
      have hb40 : isB z_40 (cpP (M 20) (M 21 0) (M_34 22 0) 58) := hb40
      have py40 : cpP (M 20) (M 21 0) (M_34 22 0) 58 → M_40 22 0 = M_34 22 0 + 1 := fun q => p40.trans (if_pos (c := _ ∧ _) q)
      have pn40 : ¬ cpP (M 20) (M 21 0) (M_34 22 0) 58 → M_40 22 0 = M_34 22 0 := fun q => p40.trans (if_neg (c := _ ∧ _) q)
      have r40 : M_34 22 0 ≤ M_40 22 0 ∧ M_40 22 0 ≤ M 21 0 := by
        by_cases q : cpP (M 20) (M 21 0) (M_34 22 0) 58
        · have := py40 q; have := q.1; omega
        · have := pn40 q; omega
      have hX40 : okX M_40 := hX.to hF40 (by omega)
      have hL40 : okL (M_40 0) := by rw [z40]; exact hL34
      refine wp_if_eq (tgt := 53) (pc := 43) G dX5_reads_43 hb40.r (by decide) (fun h_43 => ?_) (fun h_43 => ?_)
      · have h_43 := hb40.f h_43
        refine wp_iconst (pc := 53) G dX5_reads_53 ?_
        first
          | exact wm_zret (pc := 54) G R9 dX5_reads_54 (by decide) ⟨hF47, by decide, Or.inr (Or.inr (Or.inr ⟨h_9, h_23, hs40, _, _, _, _, _, hba, hfo, hh47, Or.inl ⟨by omega, rfl, rfl⟩⟩)), fun q => absurd q (by decide)⟩
          | exact wm_zret (pc := 54) G R9 dX5_reads_54 (by decide) ⟨hF40, by decide, Or.inr (Or.inr (Or.inl ⟨h_9, h_23, by rw [← hp34]; exact h_43, rfl, by rw [pn40 h_43, hp34]⟩)), fun q => absurd q (by decide)⟩
      · have h_43 := hb40.t h_43
        refine wp_aload_n (pc := 46) G dX5_reads_46 rfl 1 rfl ?_
        refine wm_calli0 (pc := 47) G dX5_reads_47 kX5_321 (ct_readsHeights hg hL40 hX40) (by decide) (by decide) (Nat.le_of_ble_eq_true rfl) (fun z_47 M_47 h_47 => ?_)
        obtain ⟨hf47, hz47, hh47, ho47⟩ := h_47
        have hF47 : fr [0, 5, 22, 23] M M_47 := hF40.tr (hf47.up (by decide))
        have hs40 : cpP (M 20) (M 21 0) 2 58 := by rw [← hp34]; exact h_43
        have hm40 : mny (M_40 0) = (M 20 0 - 48) * (M 20 1 - 48) := by unfold mny; rw [z40, d34.1, d34.2]
        rw [t40, n40, hm40, z40, py40 h_43, hp34] at hh47
        have r47 : 2 + 1 ≤ M_47 22 0 ∧ M_47 22 0 ≤ M 21 0 := hsP_r _ (by have := hs40.1; omega) (by omega) hh47
        have hX47 : okX M_47 := hX.to hF47 (by omega)
        have y47 : isB z_47 (z_47 = 1) := hz47.elim (fun e => Or.inr ⟨e, by omega⟩) (fun e => Or.inl ⟨e, e⟩)
        refine wp_if_ne (tgt := 55) (pc := 50) G dX5_reads_50 y47.r (by decide) (fun h_50 => ?_) (fun h_50 => ?_)
        · have h_50 := y47.t h_50
          clear hX1 t1 n1 p1 hF1
          have loop : ∀ (n : Nat) (k : Nat) (w9 : Int) (M1 : Nat → Int → Int), (M 21 0 - M1 22 0 < k) → (M 21 0 - M1 22 0 + 1 ≤ n) → (fr [0, 5, 22, 23] M M1) → (okL (M1 0)) → (okX M1) → ((∀ z e az, itP (M 20) (M 21 0) k (M1 0) (M1 22 0) z e az → readP (M 20) (M 21 0) z e az)) → Wp g F [MB g ad M1] 0 0 55 [(1, iV w9), (0, .ref (ad 25))] [] := by
            intro n
            induction n with
            | zero =>
              intro k w9 M1 hk hn hF1 hL1 hX1 hgo
              exfalso
              have := hX1.2.2; rw [hF1 21 (by decide)] at this; omega
            | succ n ih =>
              intro k w9 M1 hk hn hF1 hL1 hX1 hgo
              have e20 : M1 20 = M 20 := hF1 20 (by decide)
              have e21 : M1 21 = M 21 := hF1 21 (by decide)
              have hp1 := hX1.2.2
              rw [e21] at hp1
              obtain ⟨k9, rfl⟩ : ∃ k9, k = k9 + 1 := ⟨k - 1, by omega⟩
              refine wp_aload_n (pc := 55) G dX5_reads_55 rfl 1 rfl ?_
              refine wm_get_22 (pc := 56) G dX5_reads_56 fX5_291_4 ?_
              refine wp_aload_n (pc := 59) G dX5_reads_59 rfl 1 rfl ?_
              refine wm_get_21 (pc := 60) G dX5_reads_60 fX5_288_4 ?_
              refine wp_icmp_ge (tgt := 124) (pc := 63) G dX5_reads_63 (by omega) (by rw [e21]; omega) (by decide) (fun h_63 => ?_) (fun h_63 => ?_)
              · refine wp_iconst (pc := 124) G dX5_reads_124 ?_
                exact wm_zret (pc := 125) G R9 dX5_reads_125 (by decide) ⟨hF1, by decide, hgo _ _ _ (Or.inl ⟨by rw [← e21]; exact h_63, rfl, rfl, rfl⟩), fun _ => hL1⟩
              · refine wp_aload_n (pc := 66) G dX5_reads_66 rfl 1 rfl ?_
                refine wp_bipush (pc := 67) G dX5_reads_67 (by decide) ?_
                refine wm_calli1 (pc := 69) G dX5_reads_69 kX5_315 (ct_passes hg hX1 (by omega)) (by decide) (by decide) (Nat.le_of_ble_eq_true rfl) (fun z_69 M_69 h_69 => ?_)
                obtain ⟨hm69, hb69⟩ := h_69
                have hF69 : fr [0, 5, 22, 23] M M_69 := by rw [hm69]; exact hF1.s1 (by decide)
                have z69 : M_69 0 = M1 0 := by rw [hm69]; rfl
                have t69 : M_69 20 = M 20 := hF69 20 (by decide)
                have n69 : M_69 21 = M 21 := hF69 21 (by decide)
                have p69 : M_69 22 0 = if M1 22 0 < M1 21 0 ∧ M1 20 (M1 22 0) = 59 then M1 22 0 + 1 else M1 22 0 := by rw [hm69]; rfl
                rw [e20, e21] at p69 hb69
                have hb69 : isB z_69 (cpP (M 20) (M 21 0) (M1 22 0) 59) := hb69
                have py69 : cpP (M 20) (M 21 0) (M1 22 0) 59 → M_69 22 0 = M1 22 0 + 1 := fun q => p69.trans (if_pos (c := _ ∧ _) q)
                have pn69 : ¬ cpP (M 20) (M 21 0) (M1 22 0) 59 → M_69 22 0 = M1 22 0 := fun q => p69.trans (if_neg (c := _ ∧ _) q)
                have r69 : M1 22 0 ≤ M_69 22 0 ∧ M_69 22 0 ≤ M 21 0 := by
                  by_cases q : cpP (M 20) (M 21 0) (M1 22 0) 59
                  · have := py69 q; have := q.1; omega
                  · have := pn69 q; omega
                have hX69 : okX M_69 := hX.to hF69 (by omega)
                refine wp_if_ne (tgt := 77) (pc := 72) G dX5_reads_72 hb69.r (by decide) (fun h_72 => ?_) (fun h_72 => ?_)
                · have h_72 := hb69.t h_72
                  refine wp_aload_n (pc := 77) G dX5_reads_77 rfl 1 rfl ?_
                  refine wp_bipush (pc := 78) G dX5_reads_78 (by decide) ?_
                  refine wm_calli1 (pc := 80) G dX5_reads_80 kX5_315 (ct_passes hg hX69 (by omega)) (by decide) (by decide) (Nat.le_of_ble_eq_true rfl) (fun z_80 M_80 h_80 => ?_)
                  obtain ⟨hm80, hb80⟩ := h_80
                  have hF80 : fr [0, 5, 22, 23] M M_80 := by rw [hm80]; exact hF69.s1 (by decide)
                  have z80 : M_80 0 = M_69 0 := by rw [hm80]; rfl
                  have t80 : M_80 20 = M 20 := hF80 20 (by decide)
                  have n80 : M_80 21 = M 21 := hF80 21 (by decide)
                  have p80 : M_80 22 0 = if M_69 22 0 < M_69 21 0 ∧ M_69 20 (M_69 22 0) = 100 then M_69 22 0 + 1 else M_69 22 0 := by rw [hm80]; rfl
                  rw [t69, n69] at p80 hb80
                  have hb80 : isB z_80 (cpP (M 20) (M 21 0) (M_69 22 0) 100) := hb80
                  have py80 : cpP (M 20) (M 21 0) (M_69 22 0) 100 → M_80 22 0 = M_69 22 0 + 1 := fun q => p80.trans (if_pos (c := _ ∧ _) q)
                  have pn80 : ¬ cpP (M 20) (M 21 0) (M_69 22 0) 100 → M_80 22 0 = M_69 22 0 := fun q => p80.trans (if_neg (c := _ ∧ _) q)
                  have r80 : M_69 22 0 ≤ M_80 22 0 ∧ M_80 22 0 ≤ M 21 0 := by
                    by_cases q : cpP (M 20) (M 21 0) (M_69 22 0) 100
                    · have := py80 q; have := q.1; omega
                    · have := pn80 q; omega
                  have hX80 : okX M_80 := hX.to hF80 (by omega)
                  refine wp_if_eq (tgt := 93) (pc := 83) G dX5_reads_83 hb80.r (by decide) (fun h_83 => ?_) (fun h_83 => ?_)
                  · have h_83 := hb80.f h_83
                    refine wp_aload_n (pc := 93) G dX5_reads_93 rfl 1 rfl ?_
                    refine wp_bipush (pc := 94) G dX5_reads_94 (by decide) ?_
                    refine wm_calli1 (pc := 96) G dX5_reads_96 kX5_315 (ct_passes hg hX80 (by omega)) (by decide) (by decide) (Nat.le_of_ble_eq_true rfl) (fun z_96 M_96 h_96 => ?_)
                    obtain ⟨hm96, hb96⟩ := h_96
                    have hF96 : fr [0, 5, 22, 23] M M_96 := by rw [hm96]; exact hF80.s1 (by decide)
                    have z96 : M_96 0 = M_80 0 := by rw [hm96]; rfl
                    have t96 : M_96 20 = M 20 := hF96 20 (by decide)
                    have n96 : M_96 21 = M 21 := hF96 21 (by decide)
                    have p96 : M_96 22 0 = if M_80 22 0 < M_80 21 0 ∧ M_80 20 (M_80 22 0) = 103 then M_80 22 0 + 1 else M_80 22 0 := by rw [hm96]; rfl
                    rw [t80, n80] at p96 hb96
                    have hb96 : isB z_96 (cpP (M 20) (M 21 0) (M_80 22 0) 103) := hb96
                    have py96 : cpP (M 20) (M 21 0) (M_80 22 0) 103 → M_96 22 0 = M_80 22 0 + 1 := fun q => p96.trans (if_pos (c := _ ∧ _) q)
                    have pn96 : ¬ cpP (M 20) (M 21 0) (M_80 22 0) 103 → M_96 22 0 = M_80 22 0 := fun q => p96.trans (if_neg (c := _ ∧ _) q)
                    have r96 : M_80 22 0 ≤ M_96 22 0 ∧ M_96 22 0 ≤ M 21 0 := by
                      by_cases q : cpP (M 20) (M 21 0) (M_80 22 0) 103
                      · have := py96 q; have := q.1; omega
                      · have := pn96 q; omega
                    have hX96 : okX M_96 := hX.to hF96 (by omega)
                    refine wp_if_eq (tgt := 113) (pc := 99) G dX5_reads_99 hb96.r (by decide) (fun h_99 => ?_) (fun h_99 => ?_)
                    · have h_99 := hb96.f h_99
                      refine wp_iconst (pc := 113) G dX5_reads_113 ?_
                      refine wp_istore_n (L' := [(2, _), (1, _), (0, _)]) (pc := 114) G dX5_reads_114 rfl (by decide) rfl ?_
                      refine wp_iload_n (pc := 115) G dX5_reads_115 rfl 0 rfl ?_
                      refine wp_if_ne (tgt := 121) (pc := 116) G dX5_reads_116 (by first | exact y87.r | omega) (by decide) (fun h_116 => ?_) (fun h_116 => ?_)
                      · refine wp_goto (tgt := 55) (pc := 121) G dX5_reads_121 (by decide) ?_
                        refine wp_sub (L' := [(1, _), (0, _)]) [1, 2] rfl ?_
                        first
                          | (have hz1 : z_87 = 1 := by omega
                             exact ih k9 w9 M_87 (by have := py80 h_83; omega) (by have := py80 h_83; have := py69 h_72; omega) hF87 (hq87 hz1) hX87 (fun z e az h => hgo z e az (Or.inr (Or.inr (Or.inl ⟨h_72, g83, _, _, _, hd87, Or.inr ⟨hz1, h⟩⟩)))))
                          | (have hz1 : z_103 = 1 := by omega
                             exact ih k9 w9 M_103 (by have := py96 h_99; have := pn80 h_83; omega) (by have := py96 h_99; have := pn80 h_83; have := py69 h_72; omega) hF103 (hq103.2.1 hz1) hX103 (fun z e az h => hgo z e az (Or.inr (Or.inr (Or.inr (Or.inr ⟨h_72, g83, g99, _, _, _, hd103, Or.inr ⟨hz1, h⟩⟩))))))
                          | (exfalso; omega)
                      · refine wp_iconst (pc := 119) G dX5_reads_119 ?_
                        first
                          | exact wm_zret (pc := 120) G R9 dX5_reads_120 (by decide) ⟨hF87, by decide, hgo _ _ (M_87 0) (Or.inr (Or.inr (Or.inl ⟨h_72, g83, _, _, _, hd87, Or.inl ⟨by omega, rfl, rfl⟩⟩))), fun q => absurd q (by decide)⟩
                          | exact wm_zret (pc := 120) G R9 dX5_reads_120 (by decide) ⟨hF103, by decide, hgo _ _ (M_103 0) (Or.inr (Or.inr (Or.inr (Or.inr ⟨h_72, g83, g99, _, _, _, hd103, Or.inl ⟨by omega, rfl, rfl⟩⟩)))), fun q => absurd q (by decide)⟩
                          | exact wm_zret (pc := 120) G R9 dX5_reads_120 (by decide) ⟨hF96, by decide, hgo _ _ (M_96 0) (Or.inr (Or.inr (Or.inr (Or.inl ⟨h_72, by rw [← py69 h_72]; exact h_83, by rw [← py69 h_72, ← pn80 h_83]; exact h_99, rfl, by rw [pn96 h_99, pn80 h_83, py69 h_72]⟩)))), fun q => absurd q (by decide)⟩
                          | (exfalso; omega)
                    · have h_99 := hb96.t h_99
                      refine wp_aload_n (pc := 102) G dX5_reads_102 rfl 1 rfl ?_
                      refine wm_calli0 (pc := 103) G dX5_reads_103 kX5_327 (ct_readsGate hg (by rw [z96, z80, z69]; exact hL1) hX96) (by decide) (by decide) (Nat.le_of_ble_eq_true rfl) (fun z_103 M_103 h_103 => ?_)
                      obtain ⟨hf103, hd103⟩ := h_103
                      have hF103 : fr [0, 5, 22, 23] M M_103 := hF96.tr (hf103.up (by decide))
                      have e80 : M_80 22 0 = M1 22 0 + 1 := by have := pn80 h_83; have := py69 h_72; omega
                      have e96 : M_96 22 0 = M1 22 0 + 2 := by have := py96 h_99; omega
                      have g83 : ¬ cpP (M 20) (M 21 0) (M1 22 0 + 1) 100 := by rw [← py69 h_72]; exact h_83
                      have g99 : cpP (M 20) (M 21 0) (M1 22 0 + 1) 103 := by rw [← e80]; exact h_99
                      rw [t96, n96, z96, z80, z69, e96] at hd103
                      have hq103 : (z_103 = 0 ∨ z_103 = 1) ∧ (z_103 = 1 → okL (M_103 0)) ∧ M_96 22 0 ≤ M_103 22 0 ∧ M_103 22 0 ≤ M 21 0 := by
                        have l96 := h_99.1
                        obtain ⟨z1, e1, a, q1, q2⟩ := hd103
                        have s1 := (q1.r (by omega)).1
                        rcases q2 with ⟨q3, q4, q5⟩ | ⟨q3, q4, q5, q6⟩ | ⟨q3, q4, z2, e2, b, q5, q6⟩
                        · exact ⟨Or.inl q4, fun q => by omega, by omega, by omega⟩
                        · exact ⟨Or.inl q5, fun q => by omega, by omega, by omega⟩
                        · have s2 := (q5.r (by have := q4.1; omega)).1
                          rcases q6 with ⟨q7, q8, q9⟩ | ⟨q7, q8, q9, q10⟩ | ⟨q7, q8, e3, v, q, q9, q10⟩
                          · exact ⟨Or.inl q8, fun q => by omega, by omega, by omega⟩
                          · exact ⟨Or.inl q9, fun q => by omega, by omega, by omega⟩
                          · have s3 := q9.r (by have := q8.1; omega)
                            rcases q10 with ⟨q11, q12, q13⟩ | ⟨q11, q12, q13, q14⟩
                            · exact ⟨Or.inl q12, fun q => by omega, by omega, by omega⟩
                            · exact ⟨Or.inr q12, fun _ => by rw [q14]; exact hL1.put_g (gat_r hL1 (q1.c q3).1 (q5.c q7).1) (by omega), by omega, by omega⟩
                      have hX103 : okX M_103 := hX.to hF103 (by omega)
                      have y103 : isB z_103 (z_103 = 1) := hq103.1.elim (fun e => Or.inr ⟨e, by omega⟩) (fun e => Or.inl ⟨e, e⟩)
                      refine wp_if_eq (tgt := 113) (pc := 106) G dX5_reads_106 y103.r (by decide) (fun h_106 => ?_) (fun h_106 => ?_)
                      · have h_106 := y103.f h_106
                        refine wp_iconst (pc := 113) G dX5_reads_113 ?_
                        refine wp_istore_n (L' := [(2, _), (1, _), (0, _)]) (pc := 114) G dX5_reads_114 rfl (by decide) rfl ?_
                        refine wp_iload_n (pc := 115) G dX5_reads_115 rfl 0 rfl ?_
                        refine wp_if_ne (tgt := 121) (pc := 116) G dX5_reads_116 (by first | exact y87.r | omega) (by decide) (fun h_116 => ?_) (fun h_116 => ?_)
                        · refine wp_goto (tgt := 55) (pc := 121) G dX5_reads_121 (by decide) ?_
                          refine wp_sub (L' := [(1, _), (0, _)]) [1, 2] rfl ?_
                          first
                            | (have hz1 : z_87 = 1 := by omega
                               exact ih k9 w9 M_87 (by have := py80 h_83; omega) (by have := py80 h_83; have := py69 h_72; omega) hF87 (hq87 hz1) hX87 (fun z e az h => hgo z e az (Or.inr (Or.inr (Or.inl ⟨h_72, g83, _, _, _, hd87, Or.inr ⟨hz1, h⟩⟩)))))
                            | (have hz1 : z_103 = 1 := by omega
                               exact ih k9 w9 M_103 (by have := py96 h_99; have := pn80 h_83; omega) (by have := py96 h_99; have := pn80 h_83; have := py69 h_72; omega) hF103 (hq103.2.1 hz1) hX103 (fun z e az h => hgo z e az (Or.inr (Or.inr (Or.inr (Or.inr ⟨h_72, g83, g99, _, _, _, hd103, Or.inr ⟨hz1, h⟩⟩))))))
                            | (exfalso; omega)
                        · refine wp_iconst (pc := 119) G dX5_reads_119 ?_
                          first
                            | exact wm_zret (pc := 120) G R9 dX5_reads_120 (by decide) ⟨hF87, by decide, hgo _ _ (M_87 0) (Or.inr (Or.inr (Or.inl ⟨h_72, g83, _, _, _, hd87, Or.inl ⟨by omega, rfl, rfl⟩⟩))), fun q => absurd q (by decide)⟩
                            | exact wm_zret (pc := 120) G R9 dX5_reads_120 (by decide) ⟨hF103, by decide, hgo _ _ (M_103 0) (Or.inr (Or.inr (Or.inr (Or.inr ⟨h_72, g83, g99, _, _, _, hd103, Or.inl ⟨by omega, rfl, rfl⟩⟩)))), fun q => absurd q (by decide)⟩
                            | exact wm_zret (pc := 120) G R9 dX5_reads_120 (by decide) ⟨hF96, by decide, hgo _ _ (M_96 0) (Or.inr (Or.inr (Or.inr (Or.inl ⟨h_72, by rw [← py69 h_72]; exact h_83, by rw [← py69 h_72, ← pn80 h_83]; exact h_99, rfl, by rw [pn96 h_99, pn80 h_83, py69 h_72]⟩)))), fun q => absurd q (by decide)⟩
                            | (exfalso; omega)
                      · have h_106 := y103.t h_106
                        refine wp_iconst (pc := 109) G dX5_reads_109 ?_
                        refine wp_goto (tgt := 114) (pc := 110) G dX5_reads_110 (by decide) ?_
                        refine wp_istore_n (L' := [(2, _), (1, _), (0, _)]) (pc := 114) G dX5_reads_114 rfl (by decide) rfl ?_
                        refine wp_iload_n (pc := 115) G dX5_reads_115 rfl 0 rfl ?_
                        refine wp_if_ne (tgt := 121) (pc := 116) G dX5_reads_116 (by first | exact y87.r | omega) (by decide) (fun h_116 => ?_) (fun h_116 => ?_)
                        · refine wp_goto (tgt := 55) (pc := 121) G dX5_reads_121 (by decide) ?_
                          refine wp_sub (L' := [(1, _), (0, _)]) [1, 2] rfl ?_
                          first
                            | (have hz1 : z_87 = 1 := by omega
                               exact ih k9 w9 M_87 (by have := py80 h_83; omega) (by have := py80 h_83; have := py69 h_72; omega) hF87 (hq87 hz1) hX87 (fun z e az h => hgo z e az (Or.inr (Or.inr (Or.inl ⟨h_72, g83, _, _, _, hd87, Or.inr ⟨hz1, h⟩⟩)))))
                            | (have hz1 : z_103 = 1 := by omega
                               exact ih k9 w9 M_103 (by have := py96 h_99; have := pn80 h_83; omega) (by have := py96 h_99; have := pn80 h_83; have := py69 h_72; omega) hF103 (hq103.2.1 hz1) hX103 (fun z e az h => hgo z e az (Or.inr (Or.inr (Or.inr (Or.inr ⟨h_72, g83, g99, _, _, _, hd103, Or.inr ⟨hz1, h⟩⟩))))))
                            | (exfalso; omega)
                        · refine wp_iconst (pc := 119) G dX5_reads_119 ?_
                          first
                            | exact wm_zret (pc := 120) G R9 dX5_reads_120 (by decide) ⟨hF87, by decide, hgo _ _ (M_87 0) (Or.inr (Or.inr (Or.inl ⟨h_72, g83, _, _, _, hd87, Or.inl ⟨by omega, rfl, rfl⟩⟩))), fun q => absurd q (by decide)⟩
                            | exact wm_zret (pc := 120) G R9 dX5_reads_120 (by decide) ⟨hF103, by decide, hgo _ _ (M_103 0) (Or.inr (Or.inr (Or.inr (Or.inr ⟨h_72, g83, g99, _, _, _, hd103, Or.inl ⟨by omega, rfl, rfl⟩⟩)))), fun q => absurd q (by decide)⟩
                            | exact wm_zret (pc := 120) G R9 dX5_reads_120 (by decide) ⟨hF96, by decide, hgo _ _ (M_96 0) (Or.inr (Or.inr (Or.inr (Or.inl ⟨h_72, by rw [← py69 h_72]; exact h_83, by rw [← py69 h_72, ← pn80 h_83]; exact h_99, rfl, by rw [pn96 h_99, pn80 h_83, py69 h_72]⟩)))), fun q => absurd q (by decide)⟩
                            | (exfalso; omega)
                  · have h_83 := hb80.t h_83
                    refine wp_aload_n (pc := 86) G dX5_reads_86 rfl 1 rfl ?_
                    refine wm_calli0 (pc := 87) G dX5_reads_87 kX5_324 (ct_readsDrain hg (by rw [z80, z69]; exact hL1) hX80) (by decide) (by decide) (Nat.le_of_ble_eq_true rfl) (fun z_87 M_87 h_87 => ?_)
                    obtain ⟨hf87, hz87, hd87⟩ := h_87
                    have hF87 : fr [0, 5, 22, 23] M M_87 := hF80.tr (hf87.up (by decide))
                    have e80 : M_80 22 0 = M1 22 0 + 2 := by have := py80 h_83; have := py69 h_72; omega
                    have g83 : cpP (M 20) (M 21 0) (M1 22 0 + 1) 100 := by rw [← py69 h_72]; exact h_83
                    rw [t80, n80, z80, z69, e80] at hd87
                    have hq87 : z_87 = 1 → okL (M_87 0) := by
                      obtain ⟨v, q1, q2⟩ := hd87
                      intro q
                      rw [q2 q]
                      have := (q1.c q).1.lt hL1
                      exact hL1.put_d (okS_or hL1.dr (okS_bit this))
                    have r87 : M_80 22 0 ≤ M_87 22 0 ∧ M_87 22 0 ≤ M 21 0 := by
                      obtain ⟨v, q1, q2⟩ := hd87
                      have := (q1.r (by have := h_83.1; have := py80 h_83; omega)).1
                      omega
                    have hX87 : okX M_87 := hX.to hF87 (by omega)
                    have y87 : isB z_87 (z_87 = 1) := hz87.elim (fun e => Or.inr ⟨e, by omega⟩) (fun e => Or.inl ⟨e, e⟩)
                    refine wp_goto (tgt := 114) (pc := 90) G dX5_reads_90 (by decide) ?_
                    refine wp_istore_n (L' := [(2, _), (1, _), (0, _)]) (pc := 114) G dX5_reads_114 rfl (by decide) rfl ?_
                    refine wp_iload_n (pc := 115) G dX5_reads_115 rfl 0 rfl ?_
                    refine wp_if_ne (tgt := 121) (pc := 116) G dX5_reads_116 y87.r (by decide) (fun h_116 => ?_) (fun h_116 => ?_)
                    · have h_116 := y87.t h_116
                      refine wp_goto (tgt := 55) (pc := 121) G dX5_reads_121 (by decide) ?_
                      refine wp_sub (L' := [(1, _), (0, _)]) [1, 2] rfl ?_
                      first
                        | (have hz1 : z_87 = 1 := by omega
                           exact ih k9 w9 M_87 (by have := py80 h_83; omega) (by have := py80 h_83; have := py69 h_72; omega) hF87 (hq87 hz1) hX87 (fun z e az h => hgo z e az (Or.inr (Or.inr (Or.inl ⟨h_72, g83, _, _, _, hd87, Or.inr ⟨hz1, h⟩⟩)))))
                        | (have hz1 : z_103 = 1 := by omega
                           exact ih k9 w9 M_103 (by have := py96 h_99; have := pn80 h_83; omega) (by have := py96 h_99; have := pn80 h_83; have := py69 h_72; omega) hF103 (hq103.2.1 hz1) hX103 (fun z e az h => hgo z e az (Or.inr (Or.inr (Or.inr (Or.inr ⟨h_72, g83, g99, _, _, _, hd103, Or.inr ⟨hz1, h⟩⟩))))))
                        | (exfalso; omega)
                    · have h_116 := y87.f h_116
                      refine wp_iconst (pc := 119) G dX5_reads_119 ?_
                      first
                        | exact wm_zret (pc := 120) G R9 dX5_reads_120 (by decide) ⟨hF87, by decide, hgo _ _ (M_87 0) (Or.inr (Or.inr (Or.inl ⟨h_72, g83, _, _, _, hd87, Or.inl ⟨by omega, rfl, rfl⟩⟩))), fun q => absurd q (by decide)⟩
                        | exact wm_zret (pc := 120) G R9 dX5_reads_120 (by decide) ⟨hF103, by decide, hgo _ _ (M_103 0) (Or.inr (Or.inr (Or.inr (Or.inr ⟨h_72, g83, g99, _, _, _, hd103, Or.inl ⟨by omega, rfl, rfl⟩⟩)))), fun q => absurd q (by decide)⟩
                        | exact wm_zret (pc := 120) G R9 dX5_reads_120 (by decide) ⟨hF96, by decide, hgo _ _ (M_96 0) (Or.inr (Or.inr (Or.inr (Or.inl ⟨h_72, by rw [← py69 h_72]; exact h_83, by rw [← py69 h_72, ← pn80 h_83]; exact h_99, rfl, by rw [pn96 h_99, pn80 h_83, py69 h_72]⟩)))), fun q => absurd q (by decide)⟩
                        | (exfalso; omega)
                · have h_72 := hb69.f h_72
                  refine wp_iconst (pc := 75) G dX5_reads_75 ?_
                  exact wm_zret (pc := 76) G R9 dX5_reads_76 (by decide) ⟨hF69, by decide, hgo _ _ (M_69 0) (Or.inr (Or.inl ⟨by rw [← e21]; exact h_63, h_72, rfl, pn69 h_72⟩)), fun q => absurd q (by decide)⟩
          exact loop 200 200 (M_6 23 0) M_47 (by have := ho47 (by omega); omega) (by omega) hF47 (ho47 (by omega)).1 hX47 (fun z e az h => Or.inr (Or.inr (Or.inr ⟨h_9, h_23, hs40, _, _, _, _, _, hba, hfo, hh47, Or.inr ⟨by omega, h⟩⟩)))
        · have h_50 := y47.f h_50
          refine wp_iconst (pc := 53) G dX5_reads_53 ?_
          first
            | exact wm_zret (pc := 54) G R9 dX5_reads_54 (by decide) ⟨hF47, by decide, Or.inr (Or.inr (Or.inr ⟨h_9, h_23, hs40, _, _, _, _, _, hba, hfo, hh47, Or.inl ⟨by omega, rfl, rfl⟩⟩)), fun q => absurd q (by decide)⟩
            | exact wm_zret (pc := 54) G R9 dX5_reads_54 (by decide) ⟨hF40, by decide, Or.inr (Or.inr (Or.inl ⟨h_9, h_23, by rw [← hp34]; exact h_43, rfl, by rw [pn40 h_43, hp34]⟩)), fun q => absurd q (by decide)⟩
    · have h_23 := hb20.f h_23
      have e20 := hn20 (hb20.elim (fun q => absurd q.2 h_23) (fun q => q.1))
      refine wp_iconst (pc := 26) G dX5_reads_26 ?_
      exact wm_zret (pc := 27) G R9 dX5_reads_27 (by decide) ⟨hF20, by decide, Or.inr (Or.inl ⟨h_9, h_23, rfl, e20⟩), fun q => absurd q (by decide)⟩
  · have h_9 := hb6.f h_9
    have e6 := hn6 (hb6.elim (fun q => absurd q.2 h_9) (fun q => q.1))
    refine wp_iconst (pc := 12) G dX5_reads_12 ?_
    exact wm_zret (pc := 13) G R9 dX5_reads_13 (by decide) ⟨hF6, by decide, Or.inl ⟨h_9, rfl, e6⟩, fun q => absurd q (by decide)⟩
