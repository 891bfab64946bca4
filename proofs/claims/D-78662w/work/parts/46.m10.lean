/-! THE MODEL: join, pours -/
set_option maxRecDepth 100000
set_option maxHeartbeats 4000000 in
theorem ct_join {g : GV} (hg : GOk g) {ad : Nat → Nat} {M : Nat → Int → Int} (hK : okK (M 0)) {x y : Int} (hx : 0 ≤ x ∧ x < 72) (hy : 0 ≤ y ∧ y < 72) (h0 : ∃ j : Int, (0 ≤ j ∧ j < 72) ∧ M 0 (152 + j) = 0) : CMi g ad yX5_join cX5_join 4 0 .int [iV x, iV y] M (fun z M' => fr [0] M M' ∧ z = freeK (M 0) ∧ M' 0 = joinF (M 0) x y) := by
  refine wm_ofi hg (by decide +kernel) (Nat.le_of_ble_eq_true rfl) (fun F G R9 => ?_)
  have G : FxOk g F cX5_join RX5 4 0 := G
  refine wp_loc (L' := [(0, _), (1, _), (2, _)]) rfl ?_
  have hf := freeK_p h0
  have loop : ∀ (n : Nat) (k : Int), (0 ≤ k ∧ k ≤ freeK (M 0)) → (freeK (M 0) + 1 ≤ k + n) → Wp g F [MB g ad M] 0 0 2 [(3, iV k), (0, .ref (ad 25)), (1, iV x), (2, iV y)] [] := by
    intro n
    induction n with
    | zero =>
      intro k hk hn
      exfalso
      omega
    | succ n ih =>
      intro k hk hn
      refine wp_aload_n (pc := 2) G dX5_join_2 rfl 1 rfl ?_
      refine wm_get_0 (pc := 3) G dX5_join_3 fX5_7_4 ?_
      refine wp_sipush (pc := 6) G dX5_join_6 (by decide) ?_
      refine wp_iload_n (pc := 9) G dX5_join_9 rfl 0 rfl ?_
      refine wp_iadd (pc := 10) G dX5_join_10 ?_
      refine wm_ald_0 (pc := 11) G dX5_join_11 (by omega) ?_
      refine wp_lconst0 (pc := 12) G dX5_join_12 ?_
      refine wp_lcmp_eq (tgt := 23) (pc := 13) G dX5_join_13 dX5_join_14 (by have := (hK.1 k (by omega)).1; unfold okS at this; omega) (by omega) (by decide) (fun h_13 => ?_) (fun h_13 => ?_)
      · have ek : k = freeK (M 0) := by
          by_cases e : k < freeK (M 0)
          · exact absurd h_13 (hf.2.2 k ⟨hk.1, e⟩)
          · omega
        subst ek
        refine wp_aload_n (pc := 23) G dX5_join_23 rfl 1 rfl ?_
        refine wm_get_0 (pc := 24) G dX5_join_24 fX5_7_4 ?_
        refine wp_sipush (pc := 27) G dX5_join_27 (by decide) ?_
        refine wp_iload_n (pc := 30) G dX5_join_30 rfl 0 rfl ?_
        refine wp_iadd (pc := 31) G dX5_join_31 ?_
        refine wp_aload_n (pc := 32) G dX5_join_32 rfl 1 rfl ?_
        refine wm_get_0 (pc := 33) G dX5_join_33 fX5_7_4 ?_
        refine wp_sipush (pc := 36) G dX5_join_36 (by decide) ?_
        refine wp_iload_n (pc := 39) G dX5_join_39 rfl 2 rfl ?_
        refine wp_iadd (pc := 40) G dX5_join_40 ?_
        refine wm_ald_0 (pc := 41) G dX5_join_41 (by omega) ?_
        refine wp_aload_n (pc := 42) G dX5_join_42 rfl 1 rfl ?_
        refine wm_get_0 (pc := 43) G dX5_join_43 fX5_7_4 ?_
        refine wp_sipush (pc := 46) G dX5_join_46 (by decide) ?_
        refine wp_iload_n (pc := 49) G dX5_join_49 rfl 3 rfl ?_
        refine wp_iadd (pc := 50) G dX5_join_50 ?_
        refine wm_ald_0 (pc := 51) G dX5_join_51 (by omega) ?_
        refine wp_lor (pc := 52) G dX5_join_52 (hK.1 x hx).1.1 (hK.1 y hy).1.1 ?_
        refine wm_ast_0 (pc := 53) G dX5_join_53 (by omega) ?_
        refine wp_aload_n (pc := 54) G dX5_join_54 rfl 1 rfl ?_
        refine wm_get_0 (pc := 55) G dX5_join_55 fX5_7_4 ?_
        refine wp_sipush (pc := 58) G dX5_join_58 (by decide) ?_
        refine wp_iload_n (pc := 61) G dX5_join_61 rfl 0 rfl ?_
        refine wp_iadd (pc := 62) G dX5_join_62 ?_
        refine wp_aload_n (pc := 63) G dX5_join_63 rfl 1 rfl ?_
        refine wm_get_0 (pc := 64) G dX5_join_64 fX5_7_4 ?_
        refine wp_sipush (pc := 67) G dX5_join_67 (by decide) ?_
        refine wp_iload_n (pc := 70) G dX5_join_70 rfl 2 rfl ?_
        refine wp_iadd (pc := 71) G dX5_join_71 ?_
        refine wm_ald_0 (pc := 72) G dX5_join_72 (by omega) ?_
        refine wp_aload_n (pc := 73) G dX5_join_73 rfl 1 rfl ?_
        refine wm_get_0 (pc := 74) G dX5_join_74 fX5_7_4 ?_
        refine wp_sipush (pc := 77) G dX5_join_77 (by decide) ?_
        refine wp_iload_n (pc := 80) G dX5_join_80 rfl 3 rfl ?_
        refine wp_iadd (pc := 81) G dX5_join_81 ?_
        refine wm_ald_0 (pc := 82) G dX5_join_82 (by omega) ?_
        have e1 : (ma1 M 0 (152 + freeK (M 0)) (orZ (M 0 (152 + x)) (M 0 (152 + y)))) 0 (224 + x) = M 0 (224 + x) := fup_n _ _ (by omega)
        have e2 : (ma1 M 0 (152 + freeK (M 0)) (orZ (M 0 (152 + x)) (M 0 (152 + y)))) 0 (224 + y) = M 0 (224 + y) := fup_n _ _ (by omega)
        rw [e1, e2]
        refine wp_ladd (pc := 83) G dX5_join_83 ?_
        refine wm_ast_0 (pc := 84) G dX5_join_84 (by omega) ?_
        refine wp_aload_n (pc := 85) G dX5_join_85 rfl 1 rfl ?_
        refine wm_get_0 (pc := 86) G dX5_join_86 fX5_7_4 ?_
        refine wp_sipush (pc := 89) G dX5_join_89 (by decide) ?_
        refine wp_iload_n (pc := 92) G dX5_join_92 rfl 0 rfl ?_
        refine wp_iadd (pc := 93) G dX5_join_93 ?_
        refine wp_iload_n (pc := 94) G dX5_join_94 rfl 2 rfl ?_
        refine wp_i2l (pc := 95) G dX5_join_95 (by omega) ?_
        refine wm_ast_0 (pc := 96) G dX5_join_96 (by omega) ?_
        refine wp_aload_n (pc := 97) G dX5_join_97 rfl 1 rfl ?_
        refine wm_get_0 (pc := 98) G dX5_join_98 fX5_7_4 ?_
        refine wp_sipush (pc := 101) G dX5_join_101 (by decide) ?_
        refine wp_iload_n (pc := 104) G dX5_join_104 rfl 0 rfl ?_
        refine wp_iadd (pc := 105) G dX5_join_105 ?_
        refine wp_iload_n (pc := 106) G dX5_join_106 rfl 3 rfl ?_
        refine wp_i2l (pc := 107) G dX5_join_107 (by omega) ?_
        refine wm_ast_0 (pc := 108) G dX5_join_108 (by omega) ?_
        refine wp_aload_n (pc := 109) G dX5_join_109 rfl 1 rfl ?_
        refine wm_get_0 (pc := 110) G dX5_join_110 fX5_7_4 ?_
        refine wp_sipush (pc := 113) G dX5_join_113 (by decide) ?_
        refine wp_iload_n (pc := 116) G dX5_join_116 rfl 0 rfl ?_
        refine wp_iadd (pc := 117) G dX5_join_117 ?_
        refine wp_lconst1 (pc := 118) G dX5_join_118 ?_
        refine wm_ast_0 (pc := 119) G dX5_join_119 (by omega) ?_
        refine wp_aload_n (pc := 120) G dX5_join_120 rfl 1 rfl ?_
        refine wm_get_0 (pc := 121) G dX5_join_121 fX5_7_4 ?_
        refine wp_sipush (pc := 124) G dX5_join_124 (by decide) ?_
        refine wp_iload_n (pc := 127) G dX5_join_127 rfl 2 rfl ?_
        refine wp_iadd (pc := 128) G dX5_join_128 ?_
        refine wp_lconst0 (pc := 129) G dX5_join_129 ?_
        refine wm_ast_0 (pc := 130) G dX5_join_130 (by omega) ?_
        refine wp_aload_n (pc := 131) G dX5_join_131 rfl 1 rfl ?_
        refine wm_get_0 (pc := 132) G dX5_join_132 fX5_7_4 ?_
        refine wp_sipush (pc := 135) G dX5_join_135 (by decide) ?_
        refine wp_iload_n (pc := 138) G dX5_join_138 rfl 3 rfl ?_
        refine wp_iadd (pc := 139) G dX5_join_139 ?_
        refine wp_lconst0 (pc := 140) G dX5_join_140 ?_
        refine wm_ast_0 (pc := 141) G dX5_join_141 (by omega) ?_
        refine wp_iload_n (pc := 142) G dX5_join_142 rfl 0 rfl ?_
        exact wm_iret (pc := 143) G R9 dX5_join_143 ⟨((((((fr.rf.a1 (by decide)).a1 (by decide)).a1 (by decide)).a1 (by decide)).a1 (by decide)).a1 (by decide)).a1 (by decide), rfl, rfl⟩
      · refine wp_iinc (L' := [(3, _), (0, _), (1, _), (2, _)]) (pc := 17) G dX5_join_17 0 rfl (by decide) rfl ?_
        refine wp_goto (tgt := 2) (pc := 20) G dX5_join_20 (by decide) ?_
        exact ih (k + 1) (by
          have : k ≠ freeK (M 0) := fun e => h_13 (e ▸ hf.2.1)
          omega) (by omega)
  refine wp_iconst (pc := 0) G dX5_join_0 ?_
  refine wp_istore_n (L' := [(3, _), (0, _), (1, _), (2, _)]) (pc := 1) G dX5_join_1 rfl (by decide) rfl ?_
  exact loop 73 0 (by omega) (by omega)
set_option maxHeartbeats 4000000 in
theorem ct_pours {g : GV} (hg : GOk g) {ad : Nat → Nat} {M : Nat → Int → Int} (hA : okA (M 0)) {c r : Int} (hc : isC (M 0) c) (hr : 0 ≤ r ∧ r ≤ 2000000) (hw : waterZ (M 0) ≤ 2000000) : CMv g ad yX5_pours cX5_pours 15 7 [iV c, jV r] M (fun M' => fr [0, 6, 7, 8] M M' ∧ Pours (M 0) (lakeZ (M 0) c) r (M' 0)) := by
  refine wm_ofv hg (by decide +kernel) (Nat.le_of_ble_eq_true rfl) (fun F G R9 => ?_)
  have G : FxOk g F cX5_pours RX5 15 7 := G
  refine wp_loc (L' := [(0, _), (1, _), (2, _)]) rfl ?_
  have hK := hA.K (by omega)
  obtain ⟨Z, hP, -⟩ := pour_ok hA c hr.1
  have hP9 := hP
  obtain ⟨n9, hn9⟩ := hP9
  have loop : ∀ (n : Nat) (k r : Int) (M1 : Nat → Int → Int), (okA (M1 0)) → (k = -1 ∨ isK (M1 0) k) → (0 ≤ r ∧ r ≤ 4000000) → (waterZ (M1 0) + r ≤ 4000000) → (pourO n (M1 0) k r = some Z) → (fr [0, 6, 7, 8] M M1) → Wp g F [MB g ad M1] 0 0 10 [(4, iV k), (5, jV r), (0, .ref (ad 25))] [] := by
    intro n
    induction n with
    | zero =>
      intro k r M1 hA1 hk hr hw hZ hF
      exfalso
      unfold pourO at hZ; cases hZ
    | succ n ih =>
      intro k r M1 hA1 hk hr hw hZ hF
      have hK1 := hA1.K (by omega)
      have hL1 := hA1.L
      have hkr : -1 ≤ k ∧ k < 72 := hk.elim (fun e => by omega) (fun e => by have := e.1; omega)
      refine wp_lload (pc := 10) G dX5_pours_10 1 rfl ?_
      refine wp_lconst0 (pc := 12) G dX5_pours_12 ?_
      refine wp_lcmp_le (tgt := 194) (pc := 13) G dX5_pours_13 dX5_pours_14 (by omega) (by omega) (by decide) (fun h_13 => ?_) (fun h_13 => ?_)
      · first
          | exact wm_vret (pc := 194) G R9 dX5_pours_194 ⟨hF, by
              have hZ2 := hZ
              unfold pourO at hZ2
              rw [if_pos h_13] at hZ2
              rw [Option.some.inj hZ2]; exact hP⟩
          | exact wm_vret (pc := 194) G R9 dX5_pours_194 (by
              have hZ2 := hZ
              unfold pourO at hZ2
              rw [if_neg (show ¬ r ≤ 0 by omega), if_pos h_20] at hZ2
              refine ⟨hF.a1 (by decide), ?_⟩
              rw [show (ma1 M1 0 3 (M1 0 3 + r)) 0 = Z from Option.some.inj hZ2]; exact hP)
      · refine wp_iload (pc := 17) G dX5_pours_17 0 rfl ?_
        refine wp_iconst (pc := 19) G dX5_pours_19 ?_
        refine wp_icmp_ne (tgt := 35) (pc := 20) G dX5_pours_20 (by omega) (by omega) (by decide) (fun h_20 => ?_) (fun h_20 => ?_)
        · have q : isK (M1 0) k := hk.resolve_left h_20
          obtain ⟨a1, a2, a3, a4⟩ := addZ_r hA1 q (r := r) (by omega)
          have hZ2 := hZ
          unfold pourO at hZ2
          rw [if_neg (show ¬ r ≤ 0 by omega), if_neg h_20] at hZ2
          have q1 := q.1
          refine wp_aload_n (pc := 35) G dX5_pours_35 rfl 2 rfl ?_
          refine wp_iload (pc := 36) G dX5_pours_36 0 rfl ?_
          refine wm_calll1 (pc := 38) G dX5_pours_38 kX5_127 (ct_capacity hg hL1 hK1 q.1 rfl) (by decide) (by decide) (Nat.le_of_ble_eq_true rfl) (fun z_38 M_38 h_38 => ?_)
          obtain ⟨hf38, c38, p38, pa38, pb38⟩ := h_38
          have z38 : M_38 0 = M1 0 := hf38 0 (by decide)
          have rc := capZ_r hL1 (M1 0 (152 + k))
          have rv := (hK1.1 k q.1).2.1
          have g38 : M_38 0 (224 + k) = M1 0 (224 + k) := by rw [z38]
          have J100 : ∀ (v : Int), (v = addZ (M1 0) k r) → Wp g F [MB g ad M_38] 0 0 100 [(5, jV r), (4, iV k), (0, .ref (ad 25)), (9, iV (M_38 8 0)), (10, iV (M_38 7 0))] [jV v] := by
            intro v hv
            have hvr : 0 ≤ v ∧ v ≤ r := by rw [hv]; exact ⟨a1, a2⟩
            refine wp_lstore (L' := [(11, _), (5, _), (4, _), (0, _), (9, _), (10, _)]) (pc := 100) G dX5_pours_100 (by decide) rfl ?_
            refine wp_aload_n (pc := 102) G dX5_pours_102 rfl 3 rfl ?_
            refine wm_get_0 (pc := 103) G dX5_pours_103 fX5_7_4 ?_
            refine wp_sipush (pc := 106) G dX5_pours_106 (by decide) ?_
            refine wp_iload (pc := 109) G dX5_pours_109 2 rfl ?_
            refine wp_iadd (pc := 111) G dX5_pours_111 ?_
            refine wp_dup2 (pc := 112) G dX5_pours_112 rfl rfl ?_
            refine wm_ald_0 (pc := 113) G dX5_pours_113 (by omega) ?_
            refine wp_lload (pc := 114) G dX5_pours_114 0 rfl ?_
            refine wp_ladd (pc := 116) G dX5_pours_116 ?_
            refine wm_ast_0 (pc := 117) G dX5_pours_117 (by omega) ?_
            obtain ⟨M2, hM2⟩ : ∃ X, X = ma1 M_38 0 (224 + k) (M_38 0 (224 + k) + v) := ⟨_, rfl⟩
            rw [← hM2]
            have z2 : M2 0 = addF (M1 0) k v := by
              rw [hM2]
              show fup (M_38 0) (224 + k) (M_38 0 (224 + k) + v) = _
              rw [z38]
              rfl
            have hF2 : fr [0, 6, 7, 8] M M2 := by rw [hM2]; exact (hF.tr (hf38.up (by decide))).a1 (by decide)
            have hA2 : okA (M2 0) := by rw [z2, hv]; exact hA1.add q.1 q.2 a1 a3
            have w2 : waterZ (M2 0) = waterZ (M1 0) + v := by rw [z2]; exact add_w q.1 q.2
            have hK2 := hA2.K (by omega)
            refine wp_lload (pc := 118) G dX5_pours_118 1 rfl ?_
            refine wp_lload (pc := 120) G dX5_pours_120 0 rfl ?_
            refine wp_lsub (pc := 122) G dX5_pours_122 ?_
            refine wp_lstore (L' := [(5, _), (11, _), (4, _), (0, _), (9, _), (10, _)]) (pc := 123) G dX5_pours_123 (by decide) rfl ?_
            refine wp_lload (pc := 125) G dX5_pours_125 0 rfl ?_
            refine wp_lconst0 (pc := 127) G dX5_pours_127 ?_
            refine wp_lcmp_le (tgt := 191) (pc := 128) G dX5_pours_128 dX5_pours_129 (by omega) (by omega) (by decide) (fun h_128 => ?_) (fun h_128 => ?_)
            · refine wp_goto (tgt := 10) (pc := 191) G dX5_pours_191 (by decide) ?_
              refine wp_sub (L' := [(4, _), (5, _), (0, _)]) [2, 0, 3] rfl ?_
              exact ih k (r - v) M2 hA2 (Or.inr ⟨q.1, by rw [z2, add_b 440 _ (by omega) q.1 q.1 (by omega)]; exact q.2⟩) (by omega) (by omega) (by rw [← hv, ← z2, if_pos (show r - v ≤ 0 by omega)] at hZ2; exact hZ2) hF2
            · have hcap := a4 (by rw [← hv]; omega)
              have hp1 : (pass (M1 0) (M1 0 (152 + k))).1 ≠ -1 := fun e => hcap.1 ((capZ_n hL1).mpr e)
              have rp := pass_r hL1 (M1 0 (152 + k))
              have hto : isC (M1 0) (pass (M1 0) (M1 0 (152 + k))).2.2 := (rp.resolve_left hp1).2.2.2
              refine wp_aload_n (pc := 132) G dX5_pours_132 rfl 3 rfl ?_
              refine wp_iload (pc := 133) G dX5_pours_133 5 rfl ?_
              refine wm_calli1 (pc := 135) G dX5_pours_135 kX5_133 (ct_lakeOf hg hK2 (by rw [pb38]; exact hto.lt hL1)) (by decide) (by decide) (Nat.le_of_ble_eq_true rfl) (fun z_135 M_135 h_135 => ?_)
              obtain ⟨rfl, e135⟩ := h_135
              rw [pb38, z2, lakeZ_e q.1] at e135
              rw [← hv, ← z2, ← e135, if_neg (show ¬ (r - v ≤ 0) by omega)] at hZ2
              have ko : z_135 = -1 ∨ isK (M2 0) z_135 := by
                rw [e135, z2]
                rcases lakeZ_p (az := M1 0) (pass (M1 0) (M1 0 (152 + k))).2.2 with e | ⟨e1, e2, _⟩
                · exact Or.inl e
                · exact Or.inr ⟨e1, by rw [add_b 440 _ (by omega) q.1 e1 (by omega)]; exact e2⟩
              have kor : -1 ≤ z_135 ∧ z_135 < 72 := ko.elim (fun e => by omega) (fun e => by have := e.1; omega)
              have eP : (pass (M2 0) (M2 0 (152 + k))) = (pass (M1 0) (M1 0 (152 + k))) := by rw [z2, add_b 152 k (by omega) q.1 q.1 (by omega), (add_B q.1).L.pa hL1]
              have J169 : ∀ (M3 : Nat → Int → Int) (b : Int), (fr [6, 7, 8] M2 M3) → (isB b (jnP (M2 0) k z_135)) → Wp g F [MB g ad M3] 0 0 169 [(13, iV z_135), (4, iV k), (5, jV (r - v)), (0, .ref (ad 25))] [iV b] := by
                intro M3 b hf3 hb
                have z3 : M3 0 = M2 0 := hf3 0 (by decide)
                refine wp_istore (L' := [(14, _), (13, _), (4, _), (5, _), (0, _)]) (pc := 169) G dX5_pours_169 (by decide) rfl ?_
                refine wp_iload (pc := 171) G dX5_pours_171 0 rfl ?_
                refine wp_if_eq (tgt := 187) (pc := 173) G dX5_pours_173 hb.r (by decide) (fun h_173 => ?_) (fun h_173 => ?_)
                · have h_173 := hb.f h_173
                  refine wp_iload (pc := 187) G dX5_pours_187 1 rfl ?_
                  refine wp_istore (L' := [(4, _), (14, _), (13, _), (5, _), (0, _)]) (pc := 189) G dX5_pours_189 (by decide) rfl ?_
                  refine wp_goto (tgt := 10) (pc := 191) G dX5_pours_191 (by decide) ?_
                  refine wp_sub (L' := [(4, _), (5, _), (0, _)]) [0, 3, 4] rfl ?_
                  first
                    | exact ih z_181 (r - v) M_181 (by rw [j181]; exact hA2.join jok) (Or.inr (by
                        rw [j181, z181]
                        refine ⟨fr9.1, ?_⟩
                        rw [jn_440 fr9.1 fr9.1, if_neg fr9.2.2.2.1, if_neg fr9.2.2.1, if_pos rfl])) (by omega) (by rw [j181, jn_w hA2 jok]; omega) (by rw [j181, z181, ef]; exact hZ2) ((hF2.tr (hf3.up (by decide))).tr (hf181.up (by decide)))
                    | exact ih z_135 (r - v) M3 (by rw [z3]; exact hA2) (by rw [z3]; exact ko) (by omega) (by rw [z3]; omega) (by rw [z3]; rw [if_neg h_173] at hZ2; exact hZ2) (hF2.tr (hf3.up (by decide)))
                · have h_173 := hb.t h_173
                  have jok := (jn_ok hA1 q (r := r) (by omega) (by rw [← hv]; omega) (by rw [← hv, ← z2, ← e135]; exact h_173)).2
                  rw [← hv, ← z2, ← e135] at jok
                  rw [if_pos h_173] at hZ2
                  have fr9 := jok.fr hA2
                  have ef : freeK (M2 0) = freeK (M1 0) := by rw [z2]; exact freeK_e q.1 (hA1.free q.1 q.2)
                  refine wp_aload_n (pc := 176) G dX5_pours_176 rfl 4 rfl ?_
                  refine wp_iload (pc := 177) G dX5_pours_177 2 rfl ?_
                  refine wp_iload (pc := 179) G dX5_pours_179 1 rfl ?_
                  refine wm_calli2 (pc := 181) G dX5_pours_181 kX5_139 (ct_join hg (by rw [z3]; exact hK2) q.1 jok.2.1 (by rw [z3]; exact hA2.free q.1 jok.2.2.2.1)) (by decide) (by decide) (Nat.le_of_ble_eq_true rfl) (fun z_181 M_181 h_181 => ?_)
                  obtain ⟨hf181, z181, j181⟩ := h_181
                  rw [z3] at z181 j181
                  refine wp_goto (tgt := 189) (pc := 184) G dX5_pours_184 (by decide) ?_
                  refine wp_istore (L' := [(4, _), (14, _), (13, _), (5, _), (0, _)]) (pc := 189) G dX5_pours_189 (by decide) rfl ?_
                  refine wp_goto (tgt := 10) (pc := 191) G dX5_pours_191 (by decide) ?_
                  refine wp_sub (L' := [(4, _), (5, _), (0, _)]) [0, 3, 4] rfl ?_
                  first
                    | exact ih z_181 (r - v) M_181 (by rw [j181]; exact hA2.join jok) (Or.inr (by
                        rw [j181, z181]
                        refine ⟨fr9.1, ?_⟩
                        rw [jn_440 fr9.1 fr9.1, if_neg fr9.2.2.2.1, if_neg fr9.2.2.1, if_pos rfl])) (by omega) (by rw [j181, jn_w hA2 jok]; omega) (by rw [j181, z181, ef]; exact hZ2) ((hF2.tr (hf3.up (by decide))).tr (hf181.up (by decide)))
                    | exact ih z_135 (r - v) M3 (by rw [z3]; exact hA2) (by rw [z3]; exact ko) (by omega) (by rw [z3]; omega) (by rw [z3]; rw [if_neg h_173] at hZ2; exact hZ2) (hF2.tr (hf3.up (by decide)))
              refine wp_istore (L' := [(13, _), (5, _), (11, _), (4, _), (0, _), (9, _), (10, _)]) (pc := 138) G dX5_pours_138 (by decide) rfl ?_
              refine wp_iload (pc := 140) G dX5_pours_140 0 rfl ?_
              refine wp_iconst (pc := 142) G dX5_pours_142 ?_
              refine wp_icmp_eq (tgt := 168) (pc := 143) G dX5_pours_143 (by omega) (by omega) (by decide) (fun h_143 => ?_) (fun h_143 => ?_)
              · refine wp_iconst (pc := 168) G dX5_pours_168 ?_
                refine wp_sub (L' := [(13, _), (4, _), (5, _), (0, _)]) [0, 3, 1, 4] rfl ?_
                first
                  | exact J169 M2 0 fr.rf (isB.i0 (fun h => h.1 h_143))
                  | exact J169 M_149 1 hf149 (isB.i1 ⟨h_143, h_152, by rw [← p8, eP, ← p38]; exact h_161⟩)
                  | exact J169 M_149 0 hf149 (isB.i0 (fun h => h_161 (by rw [p8, p38, ← eP]; exact h.2.2)))
                  | exact J169 M_149 0 hf149 (isB.i0 (fun h => h_152 h.2.1))
              · refine wp_aload_n (pc := 146) G dX5_pours_146 rfl 4 rfl ?_
                refine wp_iload (pc := 147) G dX5_pours_147 0 rfl ?_
                refine wm_calli1 (pc := 149) G dX5_pours_149 kX5_136 (ct_isFull hg hA2.L hK2 (ko.resolve_left h_143).1 rfl) (by decide) (by decide) (Nat.le_of_ble_eq_true rfl) (fun z_149 M_149 h_149 => ?_)
                obtain ⟨⟨hf149, p8, p6, p7⟩, hb149⟩ := h_149
                have rp2 := pass_r hA2.L (M2 0 (152 + z_135))
                refine wp_if_eq (tgt := 168) (pc := 152) G dX5_pours_152 hb149.r (by decide) (fun h_152 => ?_) (fun h_152 => ?_)
                · have h_152 := hb149.f h_152
                  refine wp_iconst (pc := 168) G dX5_pours_168 ?_
                  refine wp_sub (L' := [(13, _), (4, _), (5, _), (0, _)]) [0, 3, 1, 4] rfl ?_
                  first
                    | exact J169 M2 0 fr.rf (isB.i0 (fun h => h.1 h_143))
                    | exact J169 M_149 1 hf149 (isB.i1 ⟨h_143, h_152, by rw [← p8, eP, ← p38]; exact h_161⟩)
                    | exact J169 M_149 0 hf149 (isB.i0 (fun h => h_161 (by rw [p8, p38, ← eP]; exact h.2.2)))
                    | exact J169 M_149 0 hf149 (isB.i0 (fun h => h_152 h.2.1))
                · have h_152 := hb149.t h_152
                  refine wp_aload_n (pc := 155) G dX5_pours_155 rfl 4 rfl ?_
                  refine wm_get_8 (pc := 156) G dX5_pours_156 fX5_114_4 ?_
                  refine wp_iload (pc := 159) G dX5_pours_159 5 rfl ?_
                  refine wp_icmp_ne (tgt := 168) (pc := 161) G dX5_pours_161 (by omega) (by omega) (by decide) (fun h_161 => ?_) (fun h_161 => ?_)
                  · refine wp_iconst (pc := 168) G dX5_pours_168 ?_
                    refine wp_sub (L' := [(13, _), (4, _), (5, _), (0, _)]) [0, 3, 1, 4] rfl ?_
                    first
                      | exact J169 M2 0 fr.rf (isB.i0 (fun h => h.1 h_143))
                      | exact J169 M_149 1 hf149 (isB.i1 ⟨h_143, h_152, by rw [← p8, eP, ← p38]; exact h_161⟩)
                      | exact J169 M_149 0 hf149 (isB.i0 (fun h => h_161 (by rw [p8, p38, ← eP]; exact h.2.2)))
                      | exact J169 M_149 0 hf149 (isB.i0 (fun h => h_152 h.2.1))
                  · refine wp_iconst (pc := 164) G dX5_pours_164 ?_
                    refine wp_goto (tgt := 169) (pc := 165) G dX5_pours_165 (by decide) ?_
                    refine wp_sub (L' := [(13, _), (4, _), (5, _), (0, _)]) [0, 3, 1, 4] rfl ?_
                    first
                      | exact J169 M2 0 fr.rf (isB.i0 (fun h => h.1 h_143))
                      | exact J169 M_149 1 hf149 (isB.i1 ⟨h_143, h_152, by rw [← p8, eP, ← p38]; exact h_161⟩)
                      | exact J169 M_149 0 hf149 (isB.i0 (fun h => h_161 (by rw [p8, p38, ← eP]; exact h.2.2)))
                      | exact J169 M_149 0 hf149 (isB.i0 (fun h => h_152 h.2.1))
          refine wp_lstore (L' := [(7, _), (4, _), (5, _), (0, _)]) (pc := 41) G dX5_pours_41 (by decide) rfl ?_
          refine wp_aload_n (pc := 43) G dX5_pours_43 rfl 3 rfl ?_
          refine wm_get_8 (pc := 44) G dX5_pours_44 fX5_114_4 ?_
          refine wp_istore (L' := [(9, _), (7, _), (4, _), (5, _), (0, _)]) (pc := 47) G dX5_pours_47 (by decide) rfl ?_
          refine wp_aload_n (pc := 49) G dX5_pours_49 rfl 4 rfl ?_
          refine wm_get_7 (pc := 50) G dX5_pours_50 fX5_120_4 ?_
          refine wp_istore (L' := [(10, _), (9, _), (7, _), (4, _), (5, _), (0, _)]) (pc := 53) G dX5_pours_53 (by decide) rfl ?_
          refine wp_lload (pc := 55) G dX5_pours_55 2 rfl ?_
          refine wp_ldc2 (z := -1) (pc := 57) G dX5_pours_57 q2055 (by decide +kernel) ?_
          refine wp_lcmp_ne (tgt := 69) (pc := 60) G dX5_pours_60 dX5_pours_61 (by omega) (by omega) (by decide) (fun h_60 => ?_) (fun h_60 => ?_)
          · refine wp_lload (pc := 69) G dX5_pours_69 2 rfl ?_
            refine wp_aload_n (pc := 71) G dX5_pours_71 rfl 5 rfl ?_
            refine wm_get_0 (pc := 72) G dX5_pours_72 fX5_7_4 ?_
            refine wp_sipush (pc := 75) G dX5_pours_75 (by decide) ?_
            refine wp_iload (pc := 78) G dX5_pours_78 3 rfl ?_
            refine wp_iadd (pc := 80) G dX5_pours_80 ?_
            refine wm_ald_0 (pc := 81) G dX5_pours_81 (by omega) ?_
            refine wp_lsub (pc := 82) G dX5_pours_82 ?_
            refine wp_lstore (L' := [(7, _), (10, _), (9, _), (4, _), (5, _), (0, _)]) (pc := 83) G dX5_pours_83 (by decide) rfl ?_
            refine wp_lload (pc := 85) G dX5_pours_85 4 rfl ?_
            refine wp_lload (pc := 87) G dX5_pours_87 0 rfl ?_
            refine wp_lcmp_ge (tgt := 98) (pc := 89) G dX5_pours_89 dX5_pours_90 (by omega) (by omega) (by decide) (fun h_89 => ?_) (fun h_89 => ?_)
            · refine wp_lload (pc := 98) G dX5_pours_98 0 rfl ?_
              refine wp_sub (L' := [(5, _), (4, _), (0, _), (9, _), (10, _)]) [4, 3, 5, 2, 1] rfl ?_
              first
                | (exfalso; omega)
                | (have e9 : addZ (M1 0) k r = r := if_pos (c38.symm.trans h_60)
                   exact J100 _ e9.symm)
                | (have n9 : ¬ capZ (M1 0) (M1 0 (152 + k)) = -1 := fun e => h_60 (c38.trans e)
                   have e9 : addZ (M1 0) k r = r := (if_neg n9).trans (if_pos (by omega))
                   exact J100 _ e9.symm)
                | (have n9 : ¬ capZ (M1 0) (M1 0 (152 + k)) = -1 := fun e => h_60 (c38.trans e)
                   have e9 : addZ (M1 0) k r = z_38 - M_38 0 (224 + k) := (if_neg n9).trans ((if_neg (by omega)).trans (by omega))
                   exact J100 _ e9.symm)
            · refine wp_lload (pc := 93) G dX5_pours_93 4 rfl ?_
              refine wp_goto (tgt := 100) (pc := 95) G dX5_pours_95 (by decide) ?_
              refine wp_sub (L' := [(5, _), (4, _), (0, _), (9, _), (10, _)]) [4, 3, 5, 2, 1] rfl ?_
              first
                | (exfalso; omega)
                | (have e9 : addZ (M1 0) k r = r := if_pos (c38.symm.trans h_60)
                   exact J100 _ e9.symm)
                | (have n9 : ¬ capZ (M1 0) (M1 0 (152 + k)) = -1 := fun e => h_60 (c38.trans e)
                   have e9 : addZ (M1 0) k r = r := (if_neg n9).trans (if_pos (by omega))
                   exact J100 _ e9.symm)
                | (have n9 : ¬ capZ (M1 0) (M1 0 (152 + k)) = -1 := fun e => h_60 (c38.trans e)
                   have e9 : addZ (M1 0) k r = z_38 - M_38 0 (224 + k) := (if_neg n9).trans ((if_neg (by omega)).trans (by omega))
                   exact J100 _ e9.symm)
          · refine wp_lload (pc := 64) G dX5_pours_64 4 rfl ?_
            refine wp_goto (tgt := 83) (pc := 66) G dX5_pours_66 (by decide) ?_
            refine wp_lstore (L' := [(7, _), (10, _), (9, _), (4, _), (5, _), (0, _)]) (pc := 83) G dX5_pours_83 (by decide) rfl ?_
            refine wp_lload (pc := 85) G dX5_pours_85 4 rfl ?_
            refine wp_lload (pc := 87) G dX5_pours_87 0 rfl ?_
            refine wp_lcmp_ge (tgt := 98) (pc := 89) G dX5_pours_89 dX5_pours_90 (by omega) (by omega) (by decide) (fun h_89 => ?_) (fun h_89 => ?_)
            · refine wp_lload (pc := 98) G dX5_pours_98 0 rfl ?_
              refine wp_sub (L' := [(5, _), (4, _), (0, _), (9, _), (10, _)]) [4, 3, 5, 2, 1] rfl ?_
              first
                | (exfalso; omega)
                | (have e9 : addZ (M1 0) k r = r := if_pos (c38.symm.trans h_60)
                   exact J100 _ e9.symm)
                | (have n9 : ¬ capZ (M1 0) (M1 0 (152 + k)) = -1 := fun e => h_60 (c38.trans e)
                   have e9 : addZ (M1 0) k r = r := (if_neg n9).trans (if_pos (by omega))
                   exact J100 _ e9.symm)
                | (have n9 : ¬ capZ (M1 0) (M1 0 (152 + k)) = -1 := fun e => h_60 (c38.trans e)
                   have e9 : addZ (M1 0) k r = z_38 - M_38 0 (224 + k) := (if_neg n9).trans ((if_neg (by omega)).trans (by omega))
                   exact J100 _ e9.symm)
            · refine wp_lload (pc := 93) G dX5_pours_93 4 rfl ?_
              refine wp_goto (tgt := 100) (pc := 95) G dX5_pours_95 (by decide) ?_
              refine wp_sub (L' := [(5, _), (4, _), (0, _), (9, _), (10, _)]) [4, 3, 5, 2, 1] rfl ?_
              first
                | (exfalso; omega)
                | (have e9 : addZ (M1 0) k r = r := if_pos (c38.symm.trans h_60)
                   exact J100 _ e9.symm)
                | (have n9 : ¬ capZ (M1 0) (M1 0 (152 + k)) = -1 := fun e => h_60 (c38.trans e)
                   have e9 : addZ (M1 0) k r = r := (if_neg n9).trans (if_pos (by omega))
                   exact J100 _ e9.symm)
                | (have n9 : ¬ capZ (M1 0) (M1 0 (152 + k)) = -1 := fun e => h_60 (c38.trans e)
                   have e9 : addZ (M1 0) k r = z_38 - M_38 0 (224 + k) := (if_neg n9).trans ((if_neg (by omega)).trans (by omega))
                   exact J100 _ e9.symm)
        · refine wp_aload_n (pc := 23) G dX5_pours_23 rfl 2 rfl ?_
          refine wm_get_0 (pc := 24) G dX5_pours_24 fX5_7_4 ?_
          refine wp_iconst (pc := 27) G dX5_pours_27 ?_
          refine wp_dup2 (pc := 28) G dX5_pours_28 rfl rfl ?_
          refine wm_ald_0 (pc := 29) G dX5_pours_29 (by omega) ?_
          refine wp_lload (pc := 30) G dX5_pours_30 1 rfl ?_
          refine wp_ladd (pc := 32) G dX5_pours_32 ?_
          refine wm_ast_0 (pc := 33) G dX5_pours_33 (by omega) ?_
          first
            | exact wm_vret (pc := 34) G R9 dX5_pours_34 ⟨hF, by
                have hZ2 := hZ
                unfold pourO at hZ2
                rw [if_pos h_13] at hZ2
                rw [Option.some.inj hZ2]; exact hP⟩
            | exact wm_vret (pc := 34) G R9 dX5_pours_34 (by
                have hZ2 := hZ
                unfold pourO at hZ2
                rw [if_neg (show ¬ r ≤ 0 by omega), if_pos h_20] at hZ2
                refine ⟨hF.a1 (by decide), ?_⟩
                rw [show (ma1 M1 0 3 (M1 0 3 + r)) 0 = Z from Option.some.inj hZ2]; exact hP)
  refine wp_aload_n (pc := 0) G dX5_pours_0 rfl 0 rfl ?_
  refine wp_iload_n (pc := 1) G dX5_pours_1 rfl 1 rfl ?_
  refine wm_calli1 (pc := 2) G dX5_pours_2 kX5_133 (ct_lakeOf hg hK (hc.lt hA.L)) (by decide) (by decide) (Nat.le_of_ble_eq_true rfl) (fun z_2 M_2 h_2 => ?_)
  obtain ⟨rfl, h_2⟩ := h_2
  subst h_2
  refine wp_istore (L' := [(4, _), (0, _), (1, _), (2, _)]) (pc := 5) G dX5_pours_5 (by decide) rfl ?_
  refine wp_lload_n (pc := 7) G dX5_pours_7 rfl 3 rfl ?_
  refine wp_lstore (L' := [(5, _), (4, _), (0, _), (1, _), (2, _)]) (pc := 8) G dX5_pours_8 (by decide) rfl ?_
  refine wp_sub (L' := [(4, _), (5, _), (0, _)]) [1, 0, 2] rfl ?_
  exact loop n9 _ r M hA ((lakeZ_p c).imp id (fun e => ⟨e.1, e.2.1⟩)) (by omega) (by omega) hn9 fr.rf
