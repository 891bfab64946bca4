/-! THE CALLS OF THE MODEL: what if -/
set_option maxRecDepth 100000
theorem fup_5 (Y : Int → Int) : fup Y 5 (Y 5 + 0) = Y := by
  funext j
  by_cases e : j = 5
  · rw [e, fup_s]; omega
  · rw [fup_n _ _ e]
/-- after r onto the cell a the cell t is wet -/
def weP (az : Int → Int) (a t r : Int) : Prop := ∃ Z, Pours az (lakeZ az a) r Z ∧ wetP Z t
theorem weP_i {az Z : Int → Int} {a t r : Int} (h : Pours az (lakeZ az a) r Z) : weP az a t r ↔ wetP Z t := by
  constructor
  · rintro ⟨Z2, h1, h2⟩
    rw [h.u h1]; exact h2
  · exact fun q => ⟨Z, h, q⟩
/-- what chg leaves -/
theorem chg_p {az az2 Z : Int → Int} (hA : okA az) (hL : okL az2) (h : chg az az2 Z) : okA Z ∧ waterZ Z ≤ waterZ az ∧ sameL az2 Z ∧ Z 4 = az2 4 ∧ Z 5 = az2 5 ∧ 0 ≤ waterZ Z ∧ ∃ A, Found az2 A ∧ sameB A Z := by
  obtain ⟨A, h1, h2⟩ := h
  have hn := nL_r hA.L
  obtain ⟨y1, y2, y3, y4, y5, y6, y7⟩ := chR_p (h1.A hL) (fun i hi => hA.v _ (ordK_k hA.L (by omega)).1) h2
  have hw := h1.w
  have h9 := ord_w hA
  refine ⟨y1, by omega, (h1.same hL).tr y2.L, ?_, ?_, y7, A, h1, y2⟩
  · rw [y3]; exact h1.j (by omega)
  · rw [y4]; exact h1.j (by omega)
set_option maxHeartbeats 4000000 in
theorem ct_wets {g : GV} (hg : GOk g) {ad : Nat → Nat} {M : Nat → Int → Int} (hA : okA (M 0)) (hW : waterZ (M 0) ≤ 1000000) {a t r : Int} (ha : isC (M 0) a) (ht : isC (M 0) t) (hr : 0 ≤ r ∧ r ≤ 100000) : CMi g ad yX5_wets cX5_wets 5 8 .boolean [iV a, iV t, iV r] M (fun z M' => fr [2, 6, 7, 8, 13, 14] M M' ∧ isB z (weP (M 0) a t r)) := by
  refine wm_ofi hg (by decide +kernel) (Nat.le_of_ble_eq_true rfl) (fun F G R9 => ?_)
  have G : FxOk g F cX5_wets RX5 5 8 := G
  refine wp_loc (L' := [(0, _), (1, _), (2, _), (3, _)]) rfl ?_
  refine wp_aload_n (pc := 0) G dX5_wets_0 rfl 0 rfl ?_
  refine wm_callv0 (pc := 1) G dX5_wets_1 kX5_272 (ct_lays hg) (by decide) (by decide) (Nat.le_of_ble_eq_true rfl) (fun M_1 h_1 => ?_)
  have z1 : M_1 0 = M 0 := by rw [h_1]; rfl
  refine wp_aload_n (pc := 4) G dX5_wets_4 rfl 0 rfl ?_
  refine wp_iload_n (pc := 5) G dX5_wets_5 rfl 1 rfl ?_
  refine wp_iload_n (pc := 6) G dX5_wets_6 rfl 3 rfl ?_
  refine wp_i2l (pc := 7) G dX5_wets_7 (by omega) ?_
  refine wm_callv2 (pc := 8) G dX5_wets_8 kX5_177 (ct_pours hg (by rw [z1]; exact hA) (by rw [z1]; exact ha) (by omega) (by rw [z1]; omega)) (by decide) (by decide) (Nat.le_of_ble_eq_true rfl) (fun M_8 h_8 => ?_)
  obtain ⟨hf8, p8⟩ := h_8
  rw [z1] at p8
  obtain ⟨y1, y2, y3, y4, y5, y6, y7⟩ := p8.p hA hr.1
  refine wp_aload_n (pc := 11) G dX5_wets_11 rfl 0 rfl ?_
  refine wp_iload_n (pc := 12) G dX5_wets_12 rfl 2 rfl ?_
  refine wm_calli1 (pc := 13) G dX5_wets_13 kX5_165 (ct_isWet hg y1.L (y1.K (by omega)) ((y2.L.c t).mpr ht)) (by decide) (by decide) (Nat.le_of_ble_eq_true rfl) (fun z_13 M_13 h_13 => ?_)
  obtain ⟨hf13, hb13⟩ := h_13
  refine wp_istore (L' := [(4, _), (0, _), (1, _), (2, _), (3, _)]) (pc := 16) G dX5_wets_16 (by decide) rfl ?_
  refine wp_aload_n (pc := 18) G dX5_wets_18 rfl 1 rfl ?_
  refine wm_callv0 (pc := 19) G dX5_wets_19 kX5_275 (ct_takesBack hg) (by decide) (by decide) (Nat.le_of_ble_eq_true rfl) (fun M_19 h_19 => ?_)
  refine wp_iload (pc := 22) G dX5_wets_22 0 rfl ?_
  exact wm_zret (pc := 24) G R9 dX5_wets_24 hb13.z (by
    refine ⟨fun k hk => ?_, hb13.iff (weP_i p8).symm⟩
    rw [h_19]
    by_cases e : k = 0
    · subst e
      show M_13 2 = M 0
      rw [hf13 2 (by decide), hf8 2 (by decide), h_1]; rfl
    · simp only [mA, if_neg e]
      rw [hf13 k (fun q => hk (by simp at q ⊢; omega)), hf8 k (fun q => hk (by simp at q ⊢; omega)), h_1]
      simp only [mA, if_neg (show k ≠ 2 from fun q => hk (by simp [q]))])
set_option maxHeartbeats 4000000 in
theorem ct_amountFor {g : GV} (hg : GOk g) {ad : Nat → Nat} {M : Nat → Int → Int} (hA : okA (M 0)) (hW : waterZ (M 0) ≤ 1000000) {a : Int} (ha : -2147483648 ≤ a ∧ a ≤ 2147483647) {t : Int} (ht : -2147483648 ≤ t ∧ t ≤ 2147483647) : CMi g ad yX5_amountFor cX5_amountFor 7 9 .int [iV a, iV t] M (fun z M' => (cod (isC (M 0) a ∧ isC (M 0) t) True True (M' 4 0) ∧ fr SC M M') ∨ ((isC (M 0) a ∧ isC (M 0) t) ∧ M' 4 0 = 0 ∧ fr SC M M' ∧ ((wetP (M 0) t ∧ z = 0) ∨ (¬ wetP (M 0) t ∧ ¬ weP (M 0) a t 100000 ∧ z = -1) ∨ (¬ wetP (M 0) t ∧ weP (M 0) a t z ∧ (0 < z ∧ z ≤ 100000) ∧ ¬ weP (M 0) a t (z - 1))))) := by
  refine wm_ofi hg (by decide +kernel) (Nat.le_of_ble_eq_true rfl) (fun F G R9 => ?_)
  have G : FxOk g F cX5_amountFor RX5 7 9 := G
  refine wp_loc (L' := [(0, _), (1, _), (2, _)]) rfl ?_
  refine wp_aload_n (pc := 0) G dX5_amountFor_0 rfl 0 rfl ?_
  refine wp_aload_n (pc := 1) G dX5_amountFor_1 rfl 0 rfl ?_
  refine wp_iload_n (pc := 2) G dX5_amountFor_2 rfl 1 rfl ?_
  refine wm_calli1 (pc := 3) G dX5_amountFor_3 kX5_73 (ct_isCell hg hA.L ha) (by decide) (by decide) (Nat.le_of_ble_eq_true rfl) (fun z_3 M_3 h_3 => ?_)
  obtain ⟨rfl, h_3⟩ := h_3
  refine wp_if_eq (tgt := 21) (pc := 6) G dX5_amountFor_6 h_3.r (by decide) (fun h_6 => ?_) (fun h_6 => ?_)
  · have h_6 := h_3.f h_6
    refine wp_iconst (pc := 21) G dX5_amountFor_21 ?_
    refine wp_iconst (pc := 22) G dX5_amountFor_22 ?_
    refine wp_iconst (pc := 23) G dX5_amountFor_23 ?_
    refine wm_calli3 (pc := 24) G dX5_amountFor_24 kX5_183 (ct_goes hg (by decide) (by decide) (by decide)) (by decide) (by decide) (Nat.le_of_ble_eq_true rfl) (fun z_24 M_24 h_24 => ?_)
    obtain ⟨hm24, hb24⟩ := h_24
    have gc := goes_c (P := isC (M 0) a ∧ isC (M 0) t) (Q := True) (R := True) (by first | exact isB.i1 ⟨h_6, h_14⟩ | exact isB.i0 (fun q => h_6 q.1) | exact isB.i0 (fun q => h_14 q.2)) (isB.i1 trivial) (isB.i1 trivial)
    have f4 : fr SC M M_24 := by rw [hm24]; exact fr.rf.s1 (by decide)
    have g4 : ∀ t, M_24 = ms1 M 4 t → M_24 4 0 = t := fun t q => by rw [q]; rfl
    have g4 := g4 _ hm24
    refine wp_if_ne (tgt := 32) (pc := 27) G dX5_amountFor_27 hb24.r (by decide) (fun h_27 => ?_) (fun h_27 => ?_)
    · have h_27 := hb24.t h_27
      have gc := (gc.resolve_left (fun q => q.1 h_27)).2
      have z24 : M_24 0 = M 0 := by rw [hm24]; rfl
      have f24 : fr [4] M M_24 := by rw [hm24]; exact fr.rf.s1 (by decide)
      have g40 : M_24 4 0 = 0 := by rw [g4]; exact h_27
      refine wp_aload_n (pc := 32) G dX5_amountFor_32 rfl 0 rfl ?_
      refine wp_iload_n (pc := 33) G dX5_amountFor_33 rfl 2 rfl ?_
      refine wm_calli1 (pc := 34) G dX5_amountFor_34 kX5_165 (ct_isWet hg (by rw [z24]; exact hA.L) (by rw [z24]; exact hA.K (by omega)) (by rw [z24]; exact gc.1.2)) (by decide) (by decide) (Nat.le_of_ble_eq_true rfl) (fun z_34 M_34 h_34 => ?_)
      obtain ⟨h34f, h34b⟩ := h_34
      rw [z24] at h34b
      have z34 : M_34 0 = M 0 := by rw [h34f 0 (by decide), z24]
      refine wp_if_eq (tgt := 42) (pc := 37) G dX5_amountFor_37 h34b.r (by decide) (fun h_37 => ?_) (fun h_37 => ?_)
      · have h_37 := h34b.f h_37
        refine wp_aload_n (pc := 42) G dX5_amountFor_42 rfl 0 rfl ?_
        refine wp_iload_n (pc := 43) G dX5_amountFor_43 rfl 1 rfl ?_
        refine wp_iload_n (pc := 44) G dX5_amountFor_44 rfl 2 rfl ?_
        refine wp_ldcw (z := 100000) (pc := 45) G dX5_amountFor_45 q2417 (by decide +kernel) ?_
        refine wm_calli3 (pc := 48) G dX5_amountFor_48 kX5_279 (ct_wets hg (by rw [z34]; exact hA) (by rw [z34]; exact hW) (by rw [z34]; exact gc.1.1) (by rw [z34]; exact gc.1.2) (by omega)) (by decide) (by decide) (Nat.le_of_ble_eq_true rfl) (fun z_48 M_48 h_48 => ?_)
        obtain ⟨h48f, h48b⟩ := h_48
        rw [z34] at h48b
        refine wp_if_ne (tgt := 56) (pc := 51) G dX5_amountFor_51 h48b.r (by decide) (fun h_51 => ?_) (fun h_51 => ?_)
        · have h_51 := h48b.t h_51
          refine wp_iconst (pc := 56) G dX5_amountFor_56 ?_
          refine wp_istore_n (L' := [(3, _), (0, _), (1, _), (2, _)]) (pc := 57) G dX5_amountFor_57 rfl (by decide) rfl ?_
          refine wp_ldcw (z := 100000) (pc := 58) G dX5_amountFor_58 q2417 (by decide +kernel) ?_
          refine wp_istore (L' := [(4, _), (3, _), (0, _), (1, _), (2, _)]) (pc := 61) G dX5_amountFor_61 (by decide) rfl ?_
          have hnw : ¬ wetP (M 0) t := h_37
          have hw0 : ¬ weP (M 0) a t 0 := fun q => by
            have : Pours (M 0) (lakeZ (M 0) a) 0 (M 0) := ⟨1, rfl⟩
            exact hnw ((weP_i this).mp q)
          have loop : ∀ (n : Nat) (u d : Int) (M1 : Nat → Int → Int), (0 ≤ d ∧ d < u ∧ u ≤ 100000) → (u - d ≤ n) → (fr [2, 4, 6, 7, 8, 13, 14] M M1) → (M1 4 0 = 0) → (weP (M 0) a t u) → (¬ weP (M 0) a t d) → Wp g F [MB g ad M1] 0 0 63 [(4, iV u), (3, iV d), (0, .ref (ad 25)), (1, iV a), (2, iV t)] [] := by
            intro n
            induction n with
            | zero =>
              intro u d M1 hd hn hf h4 hu hdn
              exfalso
              omega
            | succ n ih =>
              intro u d M1 hd hn hf h4 hu hdn
              have hz : M1 0 = M 0 := hf 0 (by decide)
              refine wp_iload (pc := 63) G dX5_amountFor_63 0 rfl ?_
              refine wp_iload_n (pc := 65) G dX5_amountFor_65 rfl 1 rfl ?_
              refine wp_isub (pc := 66) G dX5_amountFor_66 ?_
              refine wp_iconst (pc := 67) G dX5_amountFor_67 ?_
              refine wp_icmp_le (tgt := 118) (pc := 68) G dX5_amountFor_68 (by omega) (by omega) (by decide) (fun h_68 => ?_) (fun h_68 => ?_)
              · refine wp_iload (pc := 118) G dX5_amountFor_118 0 rfl ?_
                exact wm_iret (pc := 120) G R9 dX5_amountFor_120 (Or.inr ⟨gc.1, h4, hf.up (by decide), Or.inr (Or.inr ⟨hnw, hu, by omega, by rw [show u - 1 = d by omega]; exact hdn⟩)⟩)
              · refine wp_iload (pc := 71) G dX5_amountFor_71 0 rfl ?_
                refine wp_iload_n (pc := 73) G dX5_amountFor_73 rfl 1 rfl ?_
                refine wp_iadd (pc := 74) G dX5_amountFor_74 ?_
                refine wp_iconst (pc := 75) G dX5_amountFor_75 ?_
                refine wp_idiv (pc := 76) G dX5_amountFor_76 (by omega) (by omega) ?_
                refine wp_istore (L' := [(5, _), (4, _), (3, _), (0, _), (1, _), (2, _)]) (pc := 77) G dX5_amountFor_77 (by decide) rfl ?_
                refine wp_aload_n (pc := 79) G dX5_amountFor_79 rfl 3 rfl ?_
                refine wp_iload_n (pc := 80) G dX5_amountFor_80 rfl 4 rfl ?_
                refine wp_iload_n (pc := 81) G dX5_amountFor_81 rfl 5 rfl ?_
                refine wp_iload (pc := 82) G dX5_amountFor_82 0 rfl ?_
                refine wm_calli3 (pc := 84) G dX5_amountFor_84 kX5_279 (ct_wets hg (by rw [hz]; exact hA) (by rw [hz]; exact hW) (by rw [hz]; exact gc.1.1) (by rw [hz]; exact gc.1.2) (by omega)) (by decide) (by decide) (Nat.le_of_ble_eq_true rfl) (fun z_84 M_84 h_84 => ?_)
                obtain ⟨h84f, h84b⟩ := h_84
                rw [hz] at h84b
                refine wp_istore (L' := [(6, _), (5, _), (4, _), (3, _), (0, _), (1, _), (2, _)]) (pc := 87) G dX5_amountFor_87 (by decide) rfl ?_
                refine wp_iload (pc := 89) G dX5_amountFor_89 0 rfl ?_
                refine wp_if_eq (tgt := 99) (pc := 91) G dX5_amountFor_91 h84b.r (by decide) (fun h_91 => ?_) (fun h_91 => ?_)
                · have h_91 := h84b.f h_91
                  refine wp_iload (pc := 99) G dX5_amountFor_99 2 rfl ?_
                  refine wp_istore (L' := [(4, _), (6, _), (5, _), (3, _), (0, _), (1, _), (2, _)]) (pc := 101) G dX5_amountFor_101 (by decide) rfl ?_
                  refine wp_iload (pc := 103) G dX5_amountFor_103 1 rfl ?_
                  refine wp_if_eq (tgt := 112) (pc := 105) G dX5_amountFor_105 h84b.r (by decide) (fun h_105 => ?_) (fun h_105 => ?_)
                  · have h_105 := h84b.f h_105
                    first
                      | exact absurd h_91 h_105
                      | (skip
                         refine wp_iload (pc := 112) G dX5_amountFor_112 2 rfl ?_
                         refine wp_istore_n (L' := [(3, _), (4, _), (6, _), (5, _), (0, _), (1, _), (2, _)]) (pc := 114) G dX5_amountFor_114 rfl (by decide) rfl ?_
                         refine wp_goto (tgt := 63) (pc := 115) G dX5_amountFor_115 (by decide) ?_
                         refine wp_sub (L' := [(4, _), (3, _), (0, _), (1, _), (2, _)]) [1, 0, 4, 5, 6] rfl ?_
                         first
                           | exact ih ((u + d) / 2) d M_84 (by omega) (by omega) (hf.tr (h84f.up (by decide))) (by rw [h84f 4 (by decide)]; exact h4) h_91 hdn
                           | exact ih u ((u + d) / 2) M_84 (by omega) (by omega) (hf.tr (h84f.up (by decide))) (by rw [h84f 4 (by decide)]; exact h4) hu h_91)
                  · have h_105 := h84b.t h_105
                    first
                      | exact absurd h_105 h_91
                      | (skip
                         refine wp_iload_n (pc := 108) G dX5_amountFor_108 rfl 3 rfl ?_
                         refine wp_goto (tgt := 114) (pc := 109) G dX5_amountFor_109 (by decide) ?_
                         refine wp_istore_n (L' := [(3, _), (4, _), (6, _), (5, _), (0, _), (1, _), (2, _)]) (pc := 114) G dX5_amountFor_114 rfl (by decide) rfl ?_
                         refine wp_goto (tgt := 63) (pc := 115) G dX5_amountFor_115 (by decide) ?_
                         refine wp_sub (L' := [(4, _), (3, _), (0, _), (1, _), (2, _)]) [1, 0, 4, 5, 6] rfl ?_
                         first
                           | exact ih ((u + d) / 2) d M_84 (by omega) (by omega) (hf.tr (h84f.up (by decide))) (by rw [h84f 4 (by decide)]; exact h4) h_91 hdn
                           | exact ih u ((u + d) / 2) M_84 (by omega) (by omega) (hf.tr (h84f.up (by decide))) (by rw [h84f 4 (by decide)]; exact h4) hu h_91)
                · have h_91 := h84b.t h_91
                  refine wp_iload (pc := 94) G dX5_amountFor_94 1 rfl ?_
                  refine wp_goto (tgt := 101) (pc := 96) G dX5_amountFor_96 (by decide) ?_
                  refine wp_istore (L' := [(4, _), (6, _), (5, _), (3, _), (0, _), (1, _), (2, _)]) (pc := 101) G dX5_amountFor_101 (by decide) rfl ?_
                  refine wp_iload (pc := 103) G dX5_amountFor_103 1 rfl ?_
                  refine wp_if_eq (tgt := 112) (pc := 105) G dX5_amountFor_105 h84b.r (by decide) (fun h_105 => ?_) (fun h_105 => ?_)
                  · have h_105 := h84b.f h_105
                    first
                      | exact absurd h_91 h_105
                      | (skip
                         refine wp_iload (pc := 112) G dX5_amountFor_112 2 rfl ?_
                         refine wp_istore_n (L' := [(3, _), (4, _), (6, _), (5, _), (0, _), (1, _), (2, _)]) (pc := 114) G dX5_amountFor_114 rfl (by decide) rfl ?_
                         refine wp_goto (tgt := 63) (pc := 115) G dX5_amountFor_115 (by decide) ?_
                         refine wp_sub (L' := [(4, _), (3, _), (0, _), (1, _), (2, _)]) [1, 0, 4, 5, 6] rfl ?_
                         first
                           | exact ih ((u + d) / 2) d M_84 (by omega) (by omega) (hf.tr (h84f.up (by decide))) (by rw [h84f 4 (by decide)]; exact h4) h_91 hdn
                           | exact ih u ((u + d) / 2) M_84 (by omega) (by omega) (hf.tr (h84f.up (by decide))) (by rw [h84f 4 (by decide)]; exact h4) hu h_91)
                  · have h_105 := h84b.t h_105
                    first
                      | exact absurd h_105 h_91
                      | (skip
                         refine wp_iload_n (pc := 108) G dX5_amountFor_108 rfl 3 rfl ?_
                         refine wp_goto (tgt := 114) (pc := 109) G dX5_amountFor_109 (by decide) ?_
                         refine wp_istore_n (L' := [(3, _), (4, _), (6, _), (5, _), (0, _), (1, _), (2, _)]) (pc := 114) G dX5_amountFor_114 rfl (by decide) rfl ?_
                         refine wp_goto (tgt := 63) (pc := 115) G dX5_amountFor_115 (by decide) ?_
                         refine wp_sub (L' := [(4, _), (3, _), (0, _), (1, _), (2, _)]) [1, 0, 4, 5, 6] rfl ?_
                         first
                           | exact ih ((u + d) / 2) d M_84 (by omega) (by omega) (hf.tr (h84f.up (by decide))) (by rw [h84f 4 (by decide)]; exact h4) h_91 hdn
                           | exact ih u ((u + d) / 2) M_84 (by omega) (by omega) (hf.tr (h84f.up (by decide))) (by rw [h84f 4 (by decide)]; exact h4) hu h_91)
          exact loop 100001 100000 0 M_48 (by omega) (by omega) (((f24.up (by decide)).tr (h34f.up (by decide))).tr (h48f.up (by decide))) (by rw [h48f 4 (by decide), h34f 4 (by decide)]; exact g40) h_51 hw0
        · have h_51 := h48b.f h_51
          refine wp_iconst (pc := 54) G dX5_amountFor_54 ?_
          exact wm_iret (pc := 55) G R9 dX5_amountFor_55 (Or.inr ⟨gc.1, by rw [h48f 4 (by decide), h34f 4 (by decide)]; exact g40, ((f24.up (by decide)).tr (h34f.up (by decide))).tr (h48f.up (by decide)), Or.inr (Or.inl ⟨h_37, h_51, rfl⟩)⟩)
      · have h_37 := h34b.t h_37
        refine wp_iconst (pc := 40) G dX5_amountFor_40 ?_
        exact wm_iret (pc := 41) G R9 dX5_amountFor_41 (Or.inr ⟨gc.1, by rw [h34f 4 (by decide)]; exact g40, (f24.up (by decide)).tr (h34f.up (by decide)), Or.inl ⟨h_37, rfl⟩⟩)
    · have h_27 := hb24.f h_27
      refine wp_iconst (pc := 30) G dX5_amountFor_30 ?_
      exact wm_iret (pc := 31) G R9 dX5_amountFor_31 (Or.inl ⟨by rw [g4]; exact (gc.resolve_right (fun q => h_27 q.1)).2, f4⟩)
  · have h_6 := h_3.t h_6
    refine wp_aload_n (pc := 9) G dX5_amountFor_9 rfl 0 rfl ?_
    refine wp_iload_n (pc := 10) G dX5_amountFor_10 rfl 2 rfl ?_
    refine wm_calli1 (pc := 11) G dX5_amountFor_11 kX5_73 (ct_isCell hg hA.L ht) (by decide) (by decide) (Nat.le_of_ble_eq_true rfl) (fun z_11 M_11 h_11 => ?_)
    obtain ⟨rfl, h_11⟩ := h_11
    refine wp_if_eq (tgt := 21) (pc := 14) G dX5_amountFor_14 h_11.r (by decide) (fun h_14 => ?_) (fun h_14 => ?_)
    · have h_14 := h_11.f h_14
      refine wp_iconst (pc := 21) G dX5_amountFor_21 ?_
      refine wp_iconst (pc := 22) G dX5_amountFor_22 ?_
      refine wp_iconst (pc := 23) G dX5_amountFor_23 ?_
      refine wm_calli3 (pc := 24) G dX5_amountFor_24 kX5_183 (ct_goes hg (by decide) (by decide) (by decide)) (by decide) (by decide) (Nat.le_of_ble_eq_true rfl) (fun z_24 M_24 h_24 => ?_)
      obtain ⟨hm24, hb24⟩ := h_24
      have gc := goes_c (P := isC (M 0) a ∧ isC (M 0) t) (Q := True) (R := True) (by first | exact isB.i1 ⟨h_6, h_14⟩ | exact isB.i0 (fun q => h_6 q.1) | exact isB.i0 (fun q => h_14 q.2)) (isB.i1 trivial) (isB.i1 trivial)
      have f4 : fr SC M M_24 := by rw [hm24]; exact fr.rf.s1 (by decide)
      have g4 : ∀ t, M_24 = ms1 M 4 t → M_24 4 0 = t := fun t q => by rw [q]; rfl
      have g4 := g4 _ hm24
      refine wp_if_ne (tgt := 32) (pc := 27) G dX5_amountFor_27 hb24.r (by decide) (fun h_27 => ?_) (fun h_27 => ?_)
      · have h_27 := hb24.t h_27
        have gc := (gc.resolve_left (fun q => q.1 h_27)).2
        have z24 : M_24 0 = M 0 := by rw [hm24]; rfl
        have f24 : fr [4] M M_24 := by rw [hm24]; exact fr.rf.s1 (by decide)
        have g40 : M_24 4 0 = 0 := by rw [g4]; exact h_27
        refine wp_aload_n (pc := 32) G dX5_amountFor_32 rfl 0 rfl ?_
        refine wp_iload_n (pc := 33) G dX5_amountFor_33 rfl 2 rfl ?_
        refine wm_calli1 (pc := 34) G dX5_amountFor_34 kX5_165 (ct_isWet hg (by rw [z24]; exact hA.L) (by rw [z24]; exact hA.K (by omega)) (by rw [z24]; exact gc.1.2)) (by decide) (by decide) (Nat.le_of_ble_eq_true rfl) (fun z_34 M_34 h_34 => ?_)
        obtain ⟨h34f, h34b⟩ := h_34
        rw [z24] at h34b
        have z34 : M_34 0 = M 0 := by rw [h34f 0 (by decide), z24]
        refine wp_if_eq (tgt := 42) (pc := 37) G dX5_amountFor_37 h34b.r (by decide) (fun h_37 => ?_) (fun h_37 => ?_)
        · have h_37 := h34b.f h_37
          refine wp_aload_n (pc := 42) G dX5_amountFor_42 rfl 0 rfl ?_
          refine wp_iload_n (pc := 43) G dX5_amountFor_43 rfl 1 rfl ?_
          refine wp_iload_n (pc := 44) G dX5_amountFor_44 rfl 2 rfl ?_
          refine wp_ldcw (z := 100000) (pc := 45) G dX5_amountFor_45 q2417 (by decide +kernel) ?_
          refine wm_calli3 (pc := 48) G dX5_amountFor_48 kX5_279 (ct_wets hg (by rw [z34]; exact hA) (by rw [z34]; exact hW) (by rw [z34]; exact gc.1.1) (by rw [z34]; exact gc.1.2) (by omega)) (by decide) (by decide) (Nat.le_of_ble_eq_true rfl) (fun z_48 M_48 h_48 => ?_)
          obtain ⟨h48f, h48b⟩ := h_48
          rw [z34] at h48b
          refine wp_if_ne (tgt := 56) (pc := 51) G dX5_amountFor_51 h48b.r (by decide) (fun h_51 => ?_) (fun h_51 => ?_)
          · have h_51 := h48b.t h_51
            refine wp_iconst (pc := 56) G dX5_amountFor_56 ?_
            refine wp_istore_n (L' := [(3, _), (0, _), (1, _), (2, _)]) (pc := 57) G dX5_amountFor_57 rfl (by decide) rfl ?_
            refine wp_ldcw (z := 100000) (pc := 58) G dX5_amountFor_58 q2417 (by decide +kernel) ?_
            refine wp_istore (L' := [(4, _), (3, _), (0, _), (1, _), (2, _)]) (pc := 61) G dX5_amountFor_61 (by decide) rfl ?_
            have hnw : ¬ wetP (M 0) t := h_37
            have hw0 : ¬ weP (M 0) a t 0 := fun q => by
              have : Pours (M 0) (lakeZ (M 0) a) 0 (M 0) := ⟨1, rfl⟩
              exact hnw ((weP_i this).mp q)
            have loop : ∀ (n : Nat) (u d : Int) (M1 : Nat → Int → Int), (0 ≤ d ∧ d < u ∧ u ≤ 100000) → (u - d ≤ n) → (fr [2, 4, 6, 7, 8, 13, 14] M M1) → (M1 4 0 = 0) → (weP (M 0) a t u) → (¬ weP (M 0) a t d) → Wp g F [MB g ad M1] 0 0 63 [(4, iV u), (3, iV d), (0, .ref (ad 25)), (1, iV a), (2, iV t)] [] := by
              intro n
              induction n with
              | zero =>
                intro u d M1 hd hn hf h4 hu hdn
                exfalso
                omega
              | succ n ih =>
                intro u d M1 hd hn hf h4 hu hdn
                have hz : M1 0 = M 0 := hf 0 (by decide)
                refine wp_iload (pc := 63) G dX5_amountFor_63 0 rfl ?_
                refine wp_iload_n (pc := 65) G dX5_amountFor_65 rfl 1 rfl ?_
                refine wp_isub (pc := 66) G dX5_amountFor_66 ?_
                refine wp_iconst (pc := 67) G dX5_amountFor_67 ?_
                refine wp_icmp_le (tgt := 118) (pc := 68) G dX5_amountFor_68 (by omega) (by omega) (by decide) (fun h_68 => ?_) (fun h_68 => ?_)
                · refine wp_iload (pc := 118) G dX5_amountFor_118 0 rfl ?_
                  exact wm_iret (pc := 120) G R9 dX5_amountFor_120 (Or.inr ⟨gc.1, h4, hf.up (by decide), Or.inr (Or.inr ⟨hnw, hu, by omega, by rw [show u - 1 = d by omega]; exact hdn⟩)⟩)
                · refine wp_iload (pc := 71) G dX5_amountFor_71 0 rfl ?_
                  refine wp_iload_n (pc := 73) G dX5_amountFor_73 rfl 1 rfl ?_
                  refine wp_iadd (pc := 74) G dX5_amountFor_74 ?_
                  refine wp_iconst (pc := 75) G dX5_amountFor_75 ?_
                  refine wp_idiv (pc := 76) G dX5_amountFor_76 (by omega) (by omega) ?_
                  refine wp_istore (L' := [(5, _), (4, _), (3, _), (0, _), (1, _), (2, _)]) (pc := 77) G dX5_amountFor_77 (by decide) rfl ?_
                  refine wp_aload_n (pc := 79) G dX5_amountFor_79 rfl 3 rfl ?_
                  refine wp_iload_n (pc := 80) G dX5_amountFor_80 rfl 4 rfl ?_
                  refine wp_iload_n (pc := 81) G dX5_amountFor_81 rfl 5 rfl ?_
                  refine wp_iload (pc := 82) G dX5_amountFor_82 0 rfl ?_
                  refine wm_calli3 (pc := 84) G dX5_amountFor_84 kX5_279 (ct_wets hg (by rw [hz]; exact hA) (by rw [hz]; exact hW) (by rw [hz]; exact gc.1.1) (by rw [hz]; exact gc.1.2) (by omega)) (by decide) (by decide) (Nat.le_of_ble_eq_true rfl) (fun z_84 M_84 h_84 => ?_)
                  obtain ⟨h84f, h84b⟩ := h_84
                  rw [hz] at h84b
                  refine wp_istore (L' := [(6, _), (5, _), (4, _), (3, _), (0, _), (1, _), (2, _)]) (pc := 87) G dX5_amountFor_87 (by decide) rfl ?_
                  refine wp_iload (pc := 89) G dX5_amountFor_89 0 rfl ?_
                  refine wp_if_eq (tgt := 99) (pc := 91) G dX5_amountFor_91 h84b.r (by decide) (fun h_91 => ?_) (fun h_91 => ?_)
                  · have h_91 := h84b.f h_91
                    refine wp_iload (pc := 99) G dX5_amountFor_99 2 rfl ?_
                    refine wp_istore (L' := [(4, _), (6, _), (5, _), (3, _), (0, _), (1, _), (2, _)]) (pc := 101) G dX5_amountFor_101 (by decide) rfl ?_
                    refine wp_iload (pc := 103) G dX5_amountFor_103 1 rfl ?_
                    refine wp_if_eq (tgt := 112) (pc := 105) G dX5_amountFor_105 h84b.r (by decide) (fun h_105 => ?_) (fun h_105 => ?_)
                    · have h_105 := h84b.f h_105
                      first
                        | exact absurd h_91 h_105
                        | (skip
                           refine wp_iload (pc := 112) G dX5_amountFor_112 2 rfl ?_
                           refine wp_istore_n (L' := [(3, _), (4, _), (6, _), (5, _), (0, _), (1, _), (2, _)]) (pc := 114) G dX5_amountFor_114 rfl (by decide) rfl ?_
                           refine wp_goto (tgt := 63) (pc := 115) G dX5_amountFor_115 (by decide) ?_
                           refine wp_sub (L' := [(4, _), (3, _), (0, _), (1, _), (2, _)]) [1, 0, 4, 5, 6] rfl ?_
                           first
                             | exact ih ((u + d) / 2) d M_84 (by omega) (by omega) (hf.tr (h84f.up (by decide))) (by rw [h84f 4 (by decide)]; exact h4) h_91 hdn
                             | exact ih u ((u + d) / 2) M_84 (by omega) (by omega) (hf.tr (h84f.up (by decide))) (by rw [h84f 4 (by decide)]; exact h4) hu h_91)
                    · have h_105 := h84b.t h_105
                      first
                        | exact absurd h_105 h_91
                        | (skip
                           refine wp_iload_n (pc := 108) G dX5_amountFor_108 rfl 3 rfl ?_
                           refine wp_goto (tgt := 114) (pc := 109) G dX5_amountFor_109 (by decide) ?_
                           refine wp_istore_n (L' := [(3, _), (4, _), (6, _), (5, _), (0, _), (1, _), (2, _)]) (pc := 114) G dX5_amountFor_114 rfl (by decide) rfl ?_
                           refine wp_goto (tgt := 63) (pc := 115) G dX5_amountFor_115 (by decide) ?_
                           refine wp_sub (L' := [(4, _), (3, _), (0, _), (1, _), (2, _)]) [1, 0, 4, 5, 6] rfl ?_
                           first
                             | exact ih ((u + d) / 2) d M_84 (by omega) (by omega) (hf.tr (h84f.up (by decide))) (by rw [h84f 4 (by decide)]; exact h4) h_91 hdn
                             | exact ih u ((u + d) / 2) M_84 (by omega) (by omega) (hf.tr (h84f.up (by decide))) (by rw [h84f 4 (by decide)]; exact h4) hu h_91)
                  · have h_91 := h84b.t h_91
                    refine wp_iload (pc := 94) G dX5_amountFor_94 1 rfl ?_
                    refine wp_goto (tgt := 101) (pc := 96) G dX5_amountFor_96 (by decide) ?_
                    refine wp_istore (L' := [(4, _), (6, _), (5, _), (3, _), (0, _), (1, _), (2, _)]) (pc := 101) G dX5_amountFor_101 (by decide) rfl ?_
                    refine wp_iload (pc := 103) G dX5_amountFor_103 1 rfl ?_
                    refine wp_if_eq (tgt := 112) (pc := 105) G dX5_amountFor_105 h84b.r (by decide) (fun h_105 => ?_) (fun h_105 => ?_)
                    · have h_105 := h84b.f h_105
                      first
                        | exact absurd h_91 h_105
                        | (skip
                           refine wp_iload (pc := 112) G dX5_amountFor_112 2 rfl ?_
                           refine wp_istore_n (L' := [(3, _), (4, _), (6, _), (5, _), (0, _), (1, _), (2, _)]) (pc := 114) G dX5_amountFor_114 rfl (by decide) rfl ?_
                           refine wp_goto (tgt := 63) (pc := 115) G dX5_amountFor_115 (by decide) ?_
                           refine wp_sub (L' := [(4, _), (3, _), (0, _), (1, _), (2, _)]) [1, 0, 4, 5, 6] rfl ?_
                           first
                             | exact ih ((u + d) / 2) d M_84 (by omega) (by omega) (hf.tr (h84f.up (by decide))) (by rw [h84f 4 (by decide)]; exact h4) h_91 hdn
                             | exact ih u ((u + d) / 2) M_84 (by omega) (by omega) (hf.tr (h84f.up (by decide))) (by rw [h84f 4 (by decide)]; exact h4) hu h_91)
                    · have h_105 := h84b.t h_105
                      first
                        | exact absurd h_105 h_91
                        | (skip
                           refine wp_iload_n (pc := 108) G dX5_amountFor_108 rfl 3 rfl ?_
                           refine wp_goto (tgt := 114) (pc := 109) G dX5_amountFor_109 (by decide) ?_
                           refine wp_istore_n (L' := [(3, _), (4, _), (6, _), (5, _), (0, _), (1, _), (2, _)]) (pc := 114) G dX5_amountFor_114 rfl (by decide) rfl ?_
                           refine wp_goto (tgt := 63) (pc := 115) G dX5_amountFor_115 (by decide) ?_
                           refine wp_sub (L' := [(4, _), (3, _), (0, _), (1, _), (2, _)]) [1, 0, 4, 5, 6] rfl ?_
                           first
                             | exact ih ((u + d) / 2) d M_84 (by omega) (by omega) (hf.tr (h84f.up (by decide))) (by rw [h84f 4 (by decide)]; exact h4) h_91 hdn
                             | exact ih u ((u + d) / 2) M_84 (by omega) (by omega) (hf.tr (h84f.up (by decide))) (by rw [h84f 4 (by decide)]; exact h4) hu h_91)
            exact loop 100001 100000 0 M_48 (by omega) (by omega) (((f24.up (by decide)).tr (h34f.up (by decide))).tr (h48f.up (by decide))) (by rw [h48f 4 (by decide), h34f 4 (by decide)]; exact g40) h_51 hw0
          · have h_51 := h48b.f h_51
            refine wp_iconst (pc := 54) G dX5_amountFor_54 ?_
            exact wm_iret (pc := 55) G R9 dX5_amountFor_55 (Or.inr ⟨gc.1, by rw [h48f 4 (by decide), h34f 4 (by decide)]; exact g40, ((f24.up (by decide)).tr (h34f.up (by decide))).tr (h48f.up (by decide)), Or.inr (Or.inl ⟨h_37, h_51, rfl⟩)⟩)
        · have h_37 := h34b.t h_37
          refine wp_iconst (pc := 40) G dX5_amountFor_40 ?_
          exact wm_iret (pc := 41) G R9 dX5_amountFor_41 (Or.inr ⟨gc.1, by rw [h34f 4 (by decide)]; exact g40, (f24.up (by decide)).tr (h34f.up (by decide)), Or.inl ⟨h_37, rfl⟩⟩)
      · have h_27 := hb24.f h_27
        refine wp_iconst (pc := 30) G dX5_amountFor_30 ?_
        exact wm_iret (pc := 31) G R9 dX5_amountFor_31 (Or.inl ⟨by rw [g4]; exact (gc.resolve_right (fun q => h_27 q.1)).2, f4⟩)
    · have h_14 := h_11.t h_14
      refine wp_iconst (pc := 17) G dX5_amountFor_17 ?_
      refine wp_goto (tgt := 22) (pc := 18) G dX5_amountFor_18 (by decide) ?_
      refine wp_iconst (pc := 22) G dX5_amountFor_22 ?_
      refine wp_iconst (pc := 23) G dX5_amountFor_23 ?_
      refine wm_calli3 (pc := 24) G dX5_amountFor_24 kX5_183 (ct_goes hg (by decide) (by decide) (by decide)) (by decide) (by decide) (Nat.le_of_ble_eq_true rfl) (fun z_24 M_24 h_24 => ?_)
      obtain ⟨hm24, hb24⟩ := h_24
      have gc := goes_c (P := isC (M 0) a ∧ isC (M 0) t) (Q := True) (R := True) (by first | exact isB.i1 ⟨h_6, h_14⟩ | exact isB.i0 (fun q => h_6 q.1) | exact isB.i0 (fun q => h_14 q.2)) (isB.i1 trivial) (isB.i1 trivial)
      have f4 : fr SC M M_24 := by rw [hm24]; exact fr.rf.s1 (by decide)
      have g4 : ∀ t, M_24 = ms1 M 4 t → M_24 4 0 = t := fun t q => by rw [q]; rfl
      have g4 := g4 _ hm24
      refine wp_if_ne (tgt := 32) (pc := 27) G dX5_amountFor_27 hb24.r (by decide) (fun h_27 => ?_) (fun h_27 => ?_)
      · have h_27 := hb24.t h_27
        have gc := (gc.resolve_left (fun q => q.1 h_27)).2
        have z24 : M_24 0 = M 0 := by rw [hm24]; rfl
        have f24 : fr [4] M M_24 := by rw [hm24]; exact fr.rf.s1 (by decide)
        have g40 : M_24 4 0 = 0 := by rw [g4]; exact h_27
        refine wp_aload_n (pc := 32) G dX5_amountFor_32 rfl 0 rfl ?_
        refine wp_iload_n (pc := 33) G dX5_amountFor_33 rfl 2 rfl ?_
        refine wm_calli1 (pc := 34) G dX5_amountFor_34 kX5_165 (ct_isWet hg (by rw [z24]; exact hA.L) (by rw [z24]; exact hA.K (by omega)) (by rw [z24]; exact gc.1.2)) (by decide) (by decide) (Nat.le_of_ble_eq_true rfl) (fun z_34 M_34 h_34 => ?_)
        obtain ⟨h34f, h34b⟩ := h_34
        rw [z24] at h34b
        have z34 : M_34 0 = M 0 := by rw [h34f 0 (by decide), z24]
        refine wp_if_eq (tgt := 42) (pc := 37) G dX5_amountFor_37 h34b.r (by decide) (fun h_37 => ?_) (fun h_37 => ?_)
        · have h_37 := h34b.f h_37
          refine wp_aload_n (pc := 42) G dX5_amountFor_42 rfl 0 rfl ?_
          refine wp_iload_n (pc := 43) G dX5_amountFor_43 rfl 1 rfl ?_
          refine wp_iload_n (pc := 44) G dX5_amountFor_44 rfl 2 rfl ?_
          refine wp_ldcw (z := 100000) (pc := 45) G dX5_amountFor_45 q2417 (by decide +kernel) ?_
          refine wm_calli3 (pc := 48) G dX5_amountFor_48 kX5_279 (ct_wets hg (by rw [z34]; exact hA) (by rw [z34]; exact hW) (by rw [z34]; exact gc.1.1) (by rw [z34]; exact gc.1.2) (by omega)) (by decide) (by decide) (Nat.le_of_ble_eq_true rfl) (fun z_48 M_48 h_48 => ?_)
          obtain ⟨h48f, h48b⟩ := h_48
          rw [z34] at h48b
          refine wp_if_ne (tgt := 56) (pc := 51) G dX5_amountFor_51 h48b.r (by decide) (fun h_51 => ?_) (fun h_51 => ?_)
          · have h_51 := h48b.t h_51
            refine wp_iconst (pc := 56) G dX5_amountFor_56 ?_
            refine wp_istore_n (L' := [(3, _), (0, _), (1, _), (2, _)]) (pc := 57) G dX5_amountFor_57 rfl (by decide) rfl ?_
            refine wp_ldcw (z := 100000) (pc := 58) G dX5_amountFor_58 q2417 (by decide +kernel) ?_
            refine wp_istore (L' := [(4, _), (3, _), (0, _), (1, _), (2, _)]) (pc := 61) G dX5_amountFor_61 (by decide) rfl ?_
            have hnw : ¬ wetP (M 0) t := h_37
            have hw0 : ¬ weP (M 0) a t 0 := fun q => by
              have : Pours (M 0) (lakeZ (M 0) a) 0 (M 0) := ⟨1, rfl⟩
              exact hnw ((weP_i this).mp q)
            have loop : ∀ (n : Nat) (u d : Int) (M1 : Nat → Int → Int), (0 ≤ d ∧ d < u ∧ u ≤ 100000) → (u - d ≤ n) → (fr [2, 4, 6, 7, 8, 13, 14] M M1) → (M1 4 0 = 0) → (weP (M 0) a t u) → (¬ weP (M 0) a t d) → Wp g F [MB g ad M1] 0 0 63 [(4, iV u), (3, iV d), (0, .ref (ad 25)), (1, iV a), (2, iV t)] [] := by
              intro n
              induction n with
              | zero =>
                intro u d M1 hd hn hf h4 hu hdn
                exfalso
                omega
              | succ n ih =>
                intro u d M1 hd hn hf h4 hu hdn
                have hz : M1 0 = M 0 := hf 0 (by decide)
                refine wp_iload (pc := 63) G dX5_amountFor_63 0 rfl ?_
                refine wp_iload_n (pc := 65) G dX5_amountFor_65 rfl 1 rfl ?_
                refine wp_isub (pc := 66) G dX5_amountFor_66 ?_
                refine wp_iconst (pc := 67) G dX5_amountFor_67 ?_
                refine wp_icmp_le (tgt := 118) (pc := 68) G dX5_amountFor_68 (by omega) (by omega) (by decide) (fun h_68 => ?_) (fun h_68 => ?_)
                · refine wp_iload (pc := 118) G dX5_amountFor_118 0 rfl ?_
                  exact wm_iret (pc := 120) G R9 dX5_amountFor_120 (Or.inr ⟨gc.1, h4, hf.up (by decide), Or.inr (Or.inr ⟨hnw, hu, by omega, by rw [show u - 1 = d by omega]; exact hdn⟩)⟩)
                · refine wp_iload (pc := 71) G dX5_amountFor_71 0 rfl ?_
                  refine wp_iload_n (pc := 73) G dX5_amountFor_73 rfl 1 rfl ?_
                  refine wp_iadd (pc := 74) G dX5_amountFor_74 ?_
                  refine wp_iconst (pc := 75) G dX5_amountFor_75 ?_
                  refine wp_idiv (pc := 76) G dX5_amountFor_76 (by omega) (by omega) ?_
                  refine wp_istore (L' := [(5, _), (4, _), (3, _), (0, _), (1, _), (2, _)]) (pc := 77) G dX5_amountFor_77 (by decide) rfl ?_
                  refine wp_aload_n (pc := 79) G dX5_amountFor_79 rfl 3 rfl ?_
                  refine wp_iload_n (pc := 80) G dX5_amountFor_80 rfl 4 rfl ?_
                  refine wp_iload_n (pc := 81) G dX5_amountFor_81 rfl 5 rfl ?_
                  refine wp_iload (pc := 82) G dX5_amountFor_82 0 rfl ?_
                  refine wm_calli3 (pc := 84) G dX5_amountFor_84 kX5_279 (ct_wets hg (by rw [hz]; exact hA) (by rw [hz]; exact hW) (by rw [hz]; exact gc.1.1) (by rw [hz]; exact gc.1.2) (by omega)) (by decide) (by decide) (Nat.le_of_ble_eq_true rfl) (fun z_84 M_84 h_84 => ?_)
                  obtain ⟨h84f, h84b⟩ := h_84
                  rw [hz] at h84b
                  refine wp_istore (L' := [(6, _), (5, _), (4, _), (3, _), (0, _), (1, _), (2, _)]) (pc := 87) G dX5_amountFor_87 (by decide) rfl ?_
                  refine wp_iload (pc := 89) G dX5_amountFor_89 0 rfl ?_
                  refine wp_if_eq (tgt := 99) (pc := 91) G dX5_amountFor_91 h84b.r (by decide) (fun h_91 => ?_) (fun h_91 => ?_)
                  · have h_91 := h84b.f h_91
                    refine wp_iload (pc := 99) G dX5_amountFor_99 2 rfl ?_
                    refine wp_istore (L' := [(4, _), (6, _), (5, _), (3, _), (0, _), (1, _), (2, _)]) (pc := 101) G dX5_amountFor_101 (by decide) rfl ?_
                    refine wp_iload (pc := 103) G dX5_amountFor_103 1 rfl ?_
                    refine wp_if_eq (tgt := 112) (pc := 105) G dX5_amountFor_105 h84b.r (by decide) (fun h_105 => ?_) (fun h_105 => ?_)
                    · have h_105 := h84b.f h_105
                      first
                        | exact absurd h_91 h_105
                        | (skip
                           refine wp_iload (pc := 112) G dX5_amountFor_112 2 rfl ?_
                           refine wp_istore_n (L' := [(3, _), (4, _), (6, _), (5, _), (0, _), (1, _), (2, _)]) (pc := 114) G dX5_amountFor_114 rfl (by decide) rfl ?_
                           refine wp_goto (tgt := 63) (pc := 115) G dX5_amountFor_115 (by decide) ?_
                           refine wp_sub (L' := [(4, _), (3, _), (0, _), (1, _), (2, _)]) [1, 0, 4, 5, 6] rfl ?_
                           first
                             | exact ih ((u + d) / 2) d M_84 (by omega) (by omega) (hf.tr (h84f.up (by decide))) (by rw [h84f 4 (by decide)]; exact h4) h_91 hdn
                             | exact ih u ((u + d) / 2) M_84 (by omega) (by omega) (hf.tr (h84f.up (by decide))) (by rw [h84f 4 (by decide)]; exact h4) hu h_91)
                    · have h_105 := h84b.t h_105
                      first
                        | exact absurd h_105 h_91
                        | (skip
                           refine wp_iload_n (pc := 108) G dX5_amountFor_108 rfl 3 rfl ?_
                           refine wp_goto (tgt := 114) (pc := 109) G dX5_amountFor_109 (by decide) ?_
                           refine wp_istore_n (L' := [(3, _), (4, _), (6, _), (5, _), (0, _), (1, _), (2, _)]) (pc := 114) G dX5_amountFor_114 rfl (by decide) rfl ?_
                           refine wp_goto (tgt := 63) (pc := 115) G dX5_amountFor_115 (by decide) ?_
                           refine wp_sub (L' := [(4, _), (3, _), (0, _), (1, _), (2, _)]) [1, 0, 4, 5, 6] rfl ?_
                           first
                             | exact ih ((u + d) / 2) d M_84 (by omega) (by omega) (hf.tr (h84f.up (by decide))) (by rw [h84f 4 (by decide)]; exact h4) h_91 hdn
                             | exact ih u ((u + d) / 2) M_84 (by omega) (by omega) (hf.tr (h84f.up (by decide))) (by rw [h84f 4 (by decide)]; exact h4) hu h_91)
                  · have h_91 := h84b.t h_91
                    refine wp_iload (pc := 94) G dX5_amountFor_94 1 rfl ?_
                    refine wp_goto (tgt := 101) (pc := 96) G dX5_amountFor_96 (by decide) ?_
                    refine wp_istore (L' := [(4, _), (6, _), (5, _), (3, _), (0, _), (1, _), (2, _)]) (pc := 101) G dX5_amountFor_101 (by decide) rfl ?_
                    refine wp_iload (pc := 103) G dX5_amountFor_103 1 rfl ?_
                    refine wp_if_eq (tgt := 112) (pc := 105) G dX5_amountFor_105 h84b.r (by decide) (fun h_105 => ?_) (fun h_105 => ?_)
                    · have h_105 := h84b.f h_105
                      first
                        | exact absurd h_91 h_105
                        | (skip
                           refine wp_iload (pc := 112) G dX5_amountFor_112 2 rfl ?_
                           refine wp_istore_n (L' := [(3, _), (4, _), (6, _), (5, _), (0, _), (1, _), (2, _)]) (pc := 114) G dX5_amountFor_114 rfl (by decide) rfl ?_
                           refine wp_goto (tgt := 63) (pc := 115) G dX5_amountFor_115 (by decide) ?_
                           refine wp_sub (L' := [(4, _), (3, _), (0, _), (1, _), (2, _)]) [1, 0, 4, 5, 6] rfl ?_
                           first
                             | exact ih ((u + d) / 2) d M_84 (by omega) (by omega) (hf.tr (h84f.up (by decide))) (by rw [h84f 4 (by decide)]; exact h4) h_91 hdn
                             | exact ih u ((u + d) / 2) M_84 (by omega) (by omega) (hf.tr (h84f.up (by decide))) (by rw [h84f 4 (by decide)]; exact h4) hu h_91)
                    · have h_105 := h84b.t h_105
                      first
                        | exact absurd h_105 h_91
                        | (skip
                           refine wp_iload_n (pc := 108) G dX5_amountFor_108 rfl 3 rfl ?_
                           refine wp_goto (tgt := 114) (pc := 109) G dX5_amountFor_109 (by decide) ?_
                           refine wp_istore_n (L' := [(3, _), (4, _), (6, _), (5, _), (0, _), (1, _), (2, _)]) (pc := 114) G dX5_amountFor_114 rfl (by decide) rfl ?_
                           refine wp_goto (tgt := 63) (pc := 115) G dX5_amountFor_115 (by decide) ?_
                           refine wp_sub (L' := [(4, _), (3, _), (0, _), (1, _), (2, _)]) [1, 0, 4, 5, 6] rfl ?_
                           first
                             | exact ih ((u + d) / 2) d M_84 (by omega) (by omega) (hf.tr (h84f.up (by decide))) (by rw [h84f 4 (by decide)]; exact h4) h_91 hdn
                             | exact ih u ((u + d) / 2) M_84 (by omega) (by omega) (hf.tr (h84f.up (by decide))) (by rw [h84f 4 (by decide)]; exact h4) hu h_91)
            exact loop 100001 100000 0 M_48 (by omega) (by omega) (((f24.up (by decide)).tr (h34f.up (by decide))).tr (h48f.up (by decide))) (by rw [h48f 4 (by decide), h34f 4 (by decide)]; exact g40) h_51 hw0
          · have h_51 := h48b.f h_51
            refine wp_iconst (pc := 54) G dX5_amountFor_54 ?_
            exact wm_iret (pc := 55) G R9 dX5_amountFor_55 (Or.inr ⟨gc.1, by rw [h48f 4 (by decide), h34f 4 (by decide)]; exact g40, ((f24.up (by decide)).tr (h34f.up (by decide))).tr (h48f.up (by decide)), Or.inr (Or.inl ⟨h_37, h_51, rfl⟩)⟩)
        · have h_37 := h34b.t h_37
          refine wp_iconst (pc := 40) G dX5_amountFor_40 ?_
          exact wm_iret (pc := 41) G R9 dX5_amountFor_41 (Or.inr ⟨gc.1, by rw [h34f 4 (by decide)]; exact g40, (f24.up (by decide)).tr (h34f.up (by decide)), Or.inl ⟨h_37, rfl⟩⟩)
      · have h_27 := hb24.f h_27
        refine wp_iconst (pc := 30) G dX5_amountFor_30 ?_
        exact wm_iret (pc := 31) G R9 dX5_amountFor_31 (Or.inl ⟨by rw [g4]; exact (gc.resolve_right (fun q => h_27 q.1)).2, f4⟩)
set_option maxHeartbeats 4000000 in
theorem ct_lakesAfter {g : GV} (hg : GOk g) {ad : Nat → Nat} {M : Nat → Int → Int} (hA : okA (M 0)) (hW : waterZ (M 0) ≤ 1000000) {r : Int} (hr : 0 ≤ r ∧ r ≤ 1000) : CMi g ad yX5_lakesAfter cX5_lakesAfter 3 8 .int [iV r] M (fun z M' => fr [2, 6, 7, 8, 11, 12] M M' ∧ ∃ Z, rnR (M 0) r 0 (mny (M 0)).toNat Z ∧ z = nL Z) := by
  refine wm_ofi hg (by decide +kernel) (Nat.le_of_ble_eq_true rfl) (fun F G R9 => ?_)
  have G : FxOk g F cX5_lakesAfter RX5 3 8 := G
  refine wp_loc (L' := [(0, _), (1, _)]) rfl ?_
  have hmm := hA.L.m
  refine wp_aload_n (pc := 0) G dX5_lakesAfter_0 rfl 0 rfl ?_
  refine wm_callv0 (pc := 1) G dX5_lakesAfter_1 kX5_272 (ct_lays hg) (by decide) (by decide) (Nat.le_of_ble_eq_true rfl) (fun M_1 h_1 => ?_)
  refine wp_iconst (pc := 4) G dX5_lakesAfter_4 ?_
  refine wp_istore_n (L' := [(2, _), (0, _), (1, _)]) (pc := 5) G dX5_lakesAfter_5 rfl (by decide) rfl ?_
  have loop : ∀ (n : Nat) (k : Int) (M1 : Nat → Int → Int), (0 ≤ k ∧ k ≤ mny (M 0)) → (mny (M 0) + 1 ≤ k + n) → (fr [0, 2, 6, 7, 8] M M1) → (M1 2 = M 0) → (rnR (M 0) r 0 k.toNat (M1 0)) → Wp g F [MB g ad M1] 0 0 6 [(2, iV k), (0, .ref (ad 25)), (1, iV r)] [] := by
    intro n
    induction n with
    | zero =>
      intro k M1 hk hn hf h2 hz
      exfalso
      omega
    | succ n ih =>
      intro k M1 hk hn hf h2 hz
      obtain ⟨y1, y2, y3, y4, y5, y6⟩ := rnR_p hA hr.1 _ _ hz
      have ekr : ((k.toNat : Nat) : Int) * r ≤ 36000 := by
        have h1 : ((k.toNat : Nat) : Int) * r ≤ 36 * r := Int.mul_le_mul_of_nonneg_right (by omega) hr.1
        omega
      refine wp_iload_n (pc := 6) G dX5_lakesAfter_6 rfl 0 rfl ?_
      refine wp_aload_n (pc := 7) G dX5_lakesAfter_7 rfl 1 rfl ?_
      refine wm_calli0 (pc := 8) G dX5_lakesAfter_8 kX5_61 (ct_many hg) (by decide) (by decide) (Nat.le_of_ble_eq_true rfl) (fun z_8 M_8 h_8 => ?_)
      obtain ⟨rfl, h_8⟩ := h_8
      rw [y2.L.m] at h_8
      subst h_8
      refine wp_icmp_ge (tgt := 27) (pc := 11) G dX5_lakesAfter_11 (by omega) (by omega) (by decide) (fun h_11 => ?_) (fun h_11 => ?_)
      · refine wp_aload_n (pc := 27) G dX5_lakesAfter_27 rfl 1 rfl ?_
        refine wm_callv0 (pc := 28) G dX5_lakesAfter_28 kX5_152 (ct_orders hg y1.L (y1.K (by omega))) (by decide) (by decide) (Nat.le_of_ble_eq_true rfl) (fun M_28 h_28 => ?_)
        refine wp_aload_n (pc := 31) G dX5_lakesAfter_31 rfl 1 rfl ?_
        refine wm_get_12 (pc := 32) G dX5_lakesAfter_32 fX5_149_4 ?_
        refine wp_istore_n (L' := [(2, _), (0, _), (1, _)]) (pc := 35) G dX5_lakesAfter_35 rfl (by decide) rfl ?_
        refine wp_aload_n (pc := 36) G dX5_lakesAfter_36 rfl 1 rfl ?_
        refine wm_callv0 (pc := 37) G dX5_lakesAfter_37 kX5_275 (ct_takesBack hg) (by decide) (by decide) (Nat.le_of_ble_eq_true rfl) (fun M_37 h_37 => ?_)
        refine wp_iload_n (pc := 40) G dX5_lakesAfter_40 rfl 0 rfl ?_
        exact wm_iret (pc := 41) G R9 dX5_lakesAfter_41 (by
          refine ⟨fun q hq => ?_, M1 0, by rw [← show k = mny (M 0) by omega]; exact hz, h_28.2.1⟩
          rw [h_37]
          by_cases e : q = 0
          · subst e
            show M_28 2 = M 0
            rw [h_28.1 2 (by decide)]; exact h2
          · simp only [mA, if_neg e]
            rw [h_28.1 q (fun x => hq (by simp at x ⊢; omega)), hf q (fun x => hq (by simp at x ⊢; omega))])
      · refine wp_aload_n (pc := 14) G dX5_lakesAfter_14 rfl 1 rfl ?_
        refine wp_iload_n (pc := 15) G dX5_lakesAfter_15 rfl 0 rfl ?_
        refine wp_iload_n (pc := 16) G dX5_lakesAfter_16 rfl 2 rfl ?_
        refine wp_i2l (pc := 17) G dX5_lakesAfter_17 (by omega) ?_
        refine wm_callv2 (pc := 18) G dX5_lakesAfter_18 kX5_177 (ct_pours hg y1 ((y2.L.c k).mpr ⟨hk.1, h_11⟩) (by omega) (by omega)) (by decide) (by decide) (Nat.le_of_ble_eq_true rfl) (fun M_18 h_18 => ?_)
        obtain ⟨hf18, p18⟩ := h_18
        refine wp_iinc (L' := [(2, _), (0, _), (1, _)]) (pc := 21) G dX5_lakesAfter_21 0 rfl (by decide) rfl ?_
        refine wp_goto (tgt := 6) (pc := 24) G dX5_lakesAfter_24 (by decide) ?_
        refine ih (k + 1) M_18 (by omega) (by omega) (hf.tr (hf18.up (by decide))) (by rw [hf18 2 (by decide)]; exact h2) ?_
        rw [tn_s hk.1]
        refine ⟨M1 0, hz, ?_⟩
        rw [fup_5, show ((k.toNat : Nat) : Int) = k by omega]
        exact p18
  exact loop 38 0 M_1 (by omega) (by omega) (by rw [h_1]; exact fr_mA.up (by decide)) (by rw [h_1]; rfl) (by rw [h_1]; rfl)
/-- after a rain of r there are fewer lakes -/
def jnA (az : Int → Int) (r : Int) : Prop := ∃ Z, rnR az r 0 (mny az).toNat Z ∧ nL Z < nL az
theorem rnR_u {az : Int → Int} {r d : Int} : ∀ (n : Nat) (Z Z' : Int → Int), rnR az r d n Z → rnR az r d n Z' → Z = Z'
  | 0, _, _, h, h' => h.trans h'.symm
  | n + 1, _, _, ⟨Y, h1, h2⟩, ⟨Y', h1', h2'⟩ => by
    have e := rnR_u n Y Y' h1 h1'
    subst e
    exact h2.u h2'
theorem jnA_i {az Z : Int → Int} {r : Int} (h : rnR az r 0 (mny az).toNat Z) : jnA az r ↔ nL Z < nL az := by
  constructor
  · rintro ⟨Z2, h1, h2⟩
    rw [rnR_u _ _ _ h h1]; exact h2
  · exact fun q => ⟨Z, h, q⟩
set_option maxHeartbeats 4000000 in
theorem ct_rainToJoin {g : GV} (hg : GOk g) {ad : Nat → Nat} {M : Nat → Int → Int} (hA : okA (M 0)) (hW : waterZ (M 0) ≤ 1000000) : CMi g ad yX5_rainToJoin cX5_rainToJoin 3 9 .int [] M (fun z M' => fr SC M M' ∧ M' 4 0 = 0 ∧ ((((1 ≤ z ∧ z ≤ 40) ∧ jnA (M 0) z ∧ ∀ j, 1 ≤ j ∧ j < z → ¬ jnA (M 0) j)) ∨ (z = -1 ∧ ∀ j, 1 ≤ j ∧ j ≤ 40 → ¬ jnA (M 0) j))) := by
  refine wm_ofi hg (by decide +kernel) (Nat.le_of_ble_eq_true rfl) (fun F G R9 => ?_)
  have G : FxOk g F cX5_rainToJoin RX5 3 9 := G
  refine wp_loc (L' := [(0, _)]) rfl ?_
  have hnL := nL_r hA.L
  refine wp_aload_n (pc := 0) G dX5_rainToJoin_0 rfl 0 rfl ?_
  refine wp_iconst (pc := 1) G dX5_rainToJoin_1 ?_
  refine wm_put_4 (pc := 2) G dX5_rainToJoin_2 fX5_54_4 ?_
  refine wp_aload_n (pc := 5) G dX5_rainToJoin_5 rfl 0 rfl ?_
  refine wm_callv0 (pc := 6) G dX5_rainToJoin_6 kX5_152 (ct_orders hg (show okL (M 0) from hA.L) (show okK (M 0) from hA.K (by omega))) (by decide) (by decide) (Nat.le_of_ble_eq_true rfl) (fun M_6 h_6 => ?_)
  have e12 : M_6 12 0 = nL (M 0) := h_6.2.1
  refine wp_aload_n (pc := 9) G dX5_rainToJoin_9 rfl 0 rfl ?_
  refine wm_get_12 (pc := 10) G dX5_rainToJoin_10 fX5_149_4 ?_
  rw [e12]
  refine wp_istore_n (L' := [(1, _), (0, _)]) (pc := 13) G dX5_rainToJoin_13 rfl (by decide) rfl ?_
  refine wp_iconst (pc := 14) G dX5_rainToJoin_14 ?_
  refine wp_istore_n (L' := [(2, _), (1, _), (0, _)]) (pc := 15) G dX5_rainToJoin_15 rfl (by decide) rfl ?_
  refine wp_sub (L' := [(2, _), (0, _), (1, _)]) [0, 2, 1] rfl ?_
  have loop : ∀ (n : Nat) (k : Int) (M1 : Nat → Int → Int), (1 ≤ k ∧ k ≤ 41) → (42 ≤ k + n) → (fr SC M M1) → (M1 4 0 = 0) → (∀ j, 1 ≤ j ∧ j < k → ¬ jnA (M 0) j) → Wp g F [MB g ad M1] 0 0 16 [(2, iV k), (0, .ref (ad 25)), (1, iV (nL (M 0)))] [] := by
    intro n
    induction n with
    | zero =>
      intro k M1 hk hn hf h4 hno
      exfalso
      omega
    | succ n ih =>
      intro k M1 hk hn hf h4 hno
      have hz : M1 0 = M 0 := hf 0 (by decide)
      refine wp_iload_n (pc := 16) G dX5_rainToJoin_16 rfl 0 rfl ?_
      refine wp_bipush (pc := 17) G dX5_rainToJoin_17 (by decide) ?_
      refine wp_icmp_gt (tgt := 39) (pc := 19) G dX5_rainToJoin_19 (by omega) (by omega) (by decide) (fun h_19 => ?_) (fun h_19 => ?_)
      · refine wp_iconst (pc := 39) G dX5_rainToJoin_39 ?_
        exact wm_iret (pc := 40) G R9 dX5_rainToJoin_40 ⟨hf, h4, Or.inr ⟨rfl, fun j hj => hno j (by omega)⟩⟩
      · refine wp_aload_n (pc := 22) G dX5_rainToJoin_22 rfl 1 rfl ?_
        refine wp_iload_n (pc := 23) G dX5_rainToJoin_23 rfl 0 rfl ?_
        refine wm_calli1 (pc := 24) G dX5_rainToJoin_24 kX5_283 (ct_lakesAfter hg (by rw [hz]; exact hA) (by rw [hz]; exact hW) (by omega)) (by decide) (by decide) (Nat.le_of_ble_eq_true rfl) (fun z_24 M_24 h_24 => ?_)
        obtain ⟨h24f, Z, hZ, h24⟩ := h_24
        rw [hz] at hZ
        have hZr := nL_r (rnR_p hA (by omega) _ _ hZ).1.L
        refine wp_iload_n (pc := 27) G dX5_rainToJoin_27 rfl 2 rfl ?_
        refine wp_icmp_ge (tgt := 33) (pc := 28) G dX5_rainToJoin_28 (by omega) (by omega) (by decide) (fun h_28 => ?_) (fun h_28 => ?_)
        · refine wp_iinc (L' := [(2, _), (0, _), (1, _)]) (pc := 33) G dX5_rainToJoin_33 0 rfl (by decide) rfl ?_
          refine wp_goto (tgt := 16) (pc := 36) G dX5_rainToJoin_36 (by decide) ?_
          refine ih (k + 1) M_24 (by omega) (by omega) (hf.tr (h24f.up (by decide))) (by rw [h24f 4 (by decide)]; exact h4) (fun j hj => ?_)
          by_cases e : j = k
          · rw [e]; exact fun q => by have := (jnA_i hZ).mp q; omega
          · exact hno j (by omega)
        · refine wp_iload_n (pc := 31) G dX5_rainToJoin_31 rfl 0 rfl ?_
          exact wm_iret (pc := 32) G R9 dX5_rainToJoin_32 ⟨hf.tr (h24f.up (by decide)), by rw [h24f 4 (by decide)]; exact h4, Or.inl ⟨by omega, (jnA_i hZ).mpr (by omega), hno⟩⟩
  exact loop 42 1 M_6 (by omega) (by omega) ((fr.rf.s1 (by decide)).tr (h_6.1.up (by decide))) (by rw [h_6.1 4 (by decide)]; rfl) (fun j hj => by omega)
set_option maxHeartbeats 4000000 in
theorem ct_withoutGate {g : GV} (hg : GOk g) {ad : Nat → Nat} {M : Nat → Int → Int} (hA : okA (M 0)) (hW : waterZ (M 0) ≤ 1000000) {a : Int} (ha : -2147483648 ≤ a ∧ a ≤ 2147483647) {b : Int} (hb : -2147483648 ≤ b ∧ b ≤ 2147483647) : CMi g ad yX5_withoutGate cX5_withoutGate 5 9 .int [iV a, iV b] M (fun z M' => (cod (isC (M 0) a ∧ isC (M 0) b ∧ isNb (M 0) a b) True True (M' 4 0) ∧ fr SC M M') ∨ ((isC (M 0) a ∧ isC (M 0) b ∧ isNb (M 0) a b) ∧ M' 4 0 = 0 ∧ fr SC M M' ∧ ∃ Z, chg (M 0) (fup (M 0) (gat (M 0) a b) (-1)) Z ∧ z = wetN Z - wetN (M 0))) := by
  refine wm_ofi hg (by decide +kernel) (Nat.le_of_ble_eq_true rfl) (fun F G R9 => ?_)
  have G : FxOk g F cX5_withoutGate RX5 5 9 := G
  refine wp_loc (L' := [(0, _), (1, _), (2, _)]) rfl ?_
  refine wp_aload_n (pc := 0) G dX5_withoutGate_0 rfl 0 rfl ?_
  refine wp_aload_n (pc := 1) G dX5_withoutGate_1 rfl 0 rfl ?_
  refine wp_iload_n (pc := 2) G dX5_withoutGate_2 rfl 1 rfl ?_
  refine wp_iload_n (pc := 3) G dX5_withoutGate_3 rfl 2 rfl ?_
  refine wm_calli2 (pc := 4) G dX5_withoutGate_4 kX5_198 (ct_isPair hg hA.L ha hb) (by decide) (by decide) (Nat.le_of_ble_eq_true rfl) (fun z_4 M_4 h_4 => ?_)
  obtain ⟨rfl, h_4⟩ := h_4
  refine wp_iconst (pc := 7) G dX5_withoutGate_7 ?_
  refine wp_iconst (pc := 8) G dX5_withoutGate_8 ?_
  refine wm_calli3 (pc := 9) G dX5_withoutGate_9 kX5_183 (ct_goes hg h_4.z (by decide) (by decide)) (by decide) (by decide) (Nat.le_of_ble_eq_true rfl) (fun z_9 M_9 h_9 => ?_)
  obtain ⟨hm9, hb9⟩ := h_9
  have gc := goes_c (P := isC (M 0) a ∧ isC (M 0) b ∧ isNb (M 0) a b) (Q := True) (R := True) h_4 (isB.i1 trivial) (isB.i1 trivial)
  have f4 : fr SC M M_9 := by rw [hm9]; exact fr.rf.s1 (by decide)
  have g4 : ∀ t, M_9 = ms1 M 4 t → M_9 4 0 = t := fun t q => by rw [q]; rfl
  have g4 := g4 _ hm9
  refine wp_if_ne (tgt := 17) (pc := 12) G dX5_withoutGate_12 hb9.r (by decide) (fun h_12 => ?_) (fun h_12 => ?_)
  · have h_12 := hb9.t h_12
    have gc := (gc.resolve_left (fun q => q.1 h_12)).2
    have z9 : M_9 0 = M 0 := by rw [hm9]; rfl
    have g40 : M_9 4 0 = 0 := by rw [g4]; exact h_12
    have hg9 := gat_r hA.L gc.1.1 gc.1.2.1
    refine wp_aload_n (pc := 17) G dX5_withoutGate_17 rfl 0 rfl ?_
    refine wm_calli0 (pc := 18) G dX5_withoutGate_18 kX5_219 (ct_wet hg (by rw [z9]; exact hA.L) (by rw [z9]; exact hA.K (by omega))) (by decide) (by decide) (Nat.le_of_ble_eq_true rfl) (fun z_18 M_18 h_18 => ?_)
    obtain ⟨h18f, h18⟩ := h_18
    rw [z9] at h18
    have z18 : M_18 0 = M 0 := by rw [h18f 0 (by decide), z9]
    refine wp_istore_n (L' := [(3, _), (0, _), (1, _), (2, _)]) (pc := 21) G dX5_withoutGate_21 rfl (by decide) rfl ?_
    refine wp_aload_n (pc := 22) G dX5_withoutGate_22 rfl 1 rfl ?_
    refine wm_callv0 (pc := 23) G dX5_withoutGate_23 kX5_272 (ct_lays hg) (by decide) (by decide) (Nat.le_of_ble_eq_true rfl) (fun M_23 h_23 => ?_)
    have z23 : M_23 0 = M 0 := by rw [h_23]; exact z18
    refine wp_aload_n (pc := 26) G dX5_withoutGate_26 rfl 1 rfl ?_
    refine wm_callv0 (pc := 27) G dX5_withoutGate_27 kX5_192 (ct_remembers hg (by rw [z23]; exact hA) (by rw [z23]; omega)) (by decide) (by decide) (Nat.le_of_ble_eq_true rfl) (fun M_27 h_27 => ?_)
    have r0 : M_27 0 = M 0 := by rw [h_27.1 0 (by decide), z23]
    refine wp_aload_n (pc := 30) G dX5_withoutGate_30 rfl 1 rfl ?_
    refine wm_get_0 (pc := 31) G dX5_withoutGate_31 fX5_7_4 ?_
    refine wp_aload_n (pc := 34) G dX5_withoutGate_34 rfl 1 rfl ?_
    refine wp_iload_n (pc := 35) G dX5_withoutGate_35 rfl 2 rfl ?_
    refine wp_iload_n (pc := 36) G dX5_withoutGate_36 rfl 3 rfl ?_
    refine wm_calli2 (pc := 37) G dX5_withoutGate_37 kX5_81 (ct_gateAt hg (by rw [r0]; exact hA.L) (by rw [r0]; exact gc.1.1) (by rw [r0]; exact gc.1.2.1)) (by decide) (by decide) (Nat.le_of_ble_eq_true rfl) (fun z_37 M_37 h_37 => ?_)
    obtain ⟨rfl, h_37⟩ := h_37
    rw [r0] at h_37
    subst h_37
    refine wp_ldc2 (z := -1) (pc := 40) G dX5_withoutGate_40 q2055 (by decide +kernel) ?_
    refine wm_ast_0 (pc := 43) G dX5_withoutGate_43 (by omega) ?_
    obtain ⟨M2, hM2⟩ : ∃ X, X = ma1 M_27 0 (gat (M 0) a b) (-1) := ⟨_, rfl⟩
    rw [← hM2]
    have z2 : M2 0 = fup (M 0) (gat (M 0) a b) (-1) := by rw [hM2, ← r0]; rfl
    have hf2 : fr [0] M_27 M2 := by rw [hM2]; exact fr.rf.a1 (by decide)
    have hLg := hA.L.put_g hg9 (show (-1 : Int) ≤ -1 ∧ (-1 : Int) ≤ 99 by omega)
    have ro := rem_ok (M2 := M2) z23 hA (by omega) h_27 (hf2 15 (by decide)) (hf2 16 (by decide)) (hf2 17 (by decide)) ⟨by rw [z2, fup_n _ _ (by omega)], by rw [z2, fup_n _ _ (by omega)]⟩
    refine wp_aload_n (pc := 44) G dX5_withoutGate_44 rfl 1 rfl ?_
    refine wm_callv0 (pc := 45) G dX5_withoutGate_45 kX5_195 (ct_changes hg (by rw [z2]; exact hLg) ro.1 ro.2.1 ro.2.2.1 ro.2.2.2.1 ro.2.2.2.2) (by decide) (by decide) (Nat.le_of_ble_eq_true rfl) (fun M_45 h_45 => ?_)
    obtain ⟨hf45, hc45⟩ := h_45
    have ch9 := rem_ch (M2 := M2) z23 hA h_27 (hf2 15 (by decide)) (hf2 16 (by decide)) hc45
    rw [z2] at ch9
    have cp := chg_p hA hLg ch9
    refine wp_aload_n (pc := 48) G dX5_withoutGate_48 rfl 1 rfl ?_
    refine wm_calli0 (pc := 49) G dX5_withoutGate_49 kX5_219 (ct_wet hg cp.1.L (cp.1.K (by omega))) (by decide) (by decide) (Nat.le_of_ble_eq_true rfl) (fun z_49 M_49 h_49 => ?_)
    obtain ⟨h49f, h49⟩ := h_49
    refine wp_istore (L' := [(4, _), (3, _), (0, _), (1, _), (2, _)]) (pc := 52) G dX5_withoutGate_52 (by decide) rfl ?_
    refine wp_aload_n (pc := 54) G dX5_withoutGate_54 rfl 2 rfl ?_
    refine wm_callv0 (pc := 55) G dX5_withoutGate_55 kX5_275 (ct_takesBack hg) (by decide) (by decide) (Nat.le_of_ble_eq_true rfl) (fun M_55 h_55 => ?_)
    refine wp_iload (pc := 58) G dX5_withoutGate_58 0 rfl ?_
    refine wp_iload_n (pc := 60) G dX5_withoutGate_60 rfl 1 rfl ?_
    refine wp_isub (pc := 61) G dX5_withoutGate_61 ?_
    exact wm_iret (pc := 62) G R9 dX5_withoutGate_62 (by
      have E : ∀ q, q ∉ SC → q ≠ 0 → M_49 q = M_9 q := fun q hq h0 => by
        rw [h49f q (fun x => hq (by simp at x ⊢; omega)), hf45 q (fun x => hq (by simp at x ⊢; omega)), hf2 q (by simp [h0]), h_27.1 q (fun x => hq (by simp at x ⊢; omega)), h_23]
        simp only [mA, if_neg (show q ≠ 2 from fun x => hq (by simp [x]))]
        exact h18f q (fun x => hq (by simp at x ⊢; omega))
      refine Or.inr ⟨gc.1, ?_, fun q hq => ?_, M_45 0, ch9, by rw [h49, h18]⟩
      · rw [h_55]
        show M_49 4 0 = 0
        rw [h49f 4 (by decide), hf45 4 (by decide), hf2 4 (by decide), h_27.1 4 (by decide), h_23]
        show M_18 4 0 = 0
        rw [h18f 4 (by decide)]; exact g40
      · rw [h_55]
        by_cases e : q = 0
        · subst e
          show M_49 2 = M 0
          rw [h49f 2 (by decide), hf45 2 (by decide), hf2 2 (by decide), h_27.1 2 (by decide), h_23]
          exact z18
        · simp only [mA, if_neg e]
          rw [E q hq e, f4 q hq])
  · have h_12 := hb9.f h_12
    refine wp_iconst (pc := 15) G dX5_withoutGate_15 ?_
    exact wm_iret (pc := 16) G R9 dX5_withoutGate_16 (Or.inl ⟨by rw [g4]; exact (gc.resolve_right (fun q => h_12 q.1)).2, f4⟩)
