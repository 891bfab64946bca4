/-! THE MODEL: ends of courses, basins -/
set_option maxRecDepth 100000
set_option maxHeartbeats 4000000 in
theorem ct_endOf {g : GV} (hg : GOk g) {ad : Nat → Nat} {M : Nat → Int → Int} (hL : okL (M 0)) {c : Int} (hc : isC (M 0) c) : CMl g ad yX5_endOf cX5_endOf 5 6 [iV c] M (fun z M' => M = M' ∧ z = endZ (M 0) c) := by
  refine wm_ofl hg (by decide +kernel) (Nat.le_of_ble_eq_true rfl) (fun F G R9 => ?_)
  have G : FxOk g F cX5_endOf RX5 5 6 := G
  refine wp_loc (L' := [(0, _), (1, _)]) rfl ?_
  have loop : ∀ (n : Nat) (x h : Int), (isC (M 0) x) → (h = plainZ (M 0) x) → (endZ (M 0) c = endZ (M 0) x) → (hgt (M 0) x + 1 ≤ n) → Wp g F [MB g ad M] 0 0 6 [(2, jV h), (0, .ref (ad 25)), (1, iV c)] [] := by
    intro n
    induction n with
    | zero =>
      intro x h hx hh he hn
      exfalso
      have := hL.hg (hx.lt hL)
      omega
    | succ n ih =>
      intro x h hx hh he hn
      have hok : okS h := by rw [hh]; exact (plainZ_p _ _).1
      have hdr := hL.dr
      refine wp_lload_n (pc := 6) G dX5_endOf_6 rfl 0 rfl ?_
      refine wp_aload_n (pc := 7) G dX5_endOf_7 rfl 1 rfl ?_
      refine wm_get_0 (pc := 8) G dX5_endOf_8 fX5_7_4 ?_
      refine wp_iconst (pc := 11) G dX5_endOf_11 ?_
      refine wm_ald_0 (pc := 12) G dX5_endOf_12 (by omega) ?_
      refine wp_land (pc := 13) G dX5_endOf_13 (by omega) (by omega) ?_
      refine wp_lconst0 (pc := 14) G dX5_endOf_14 ?_
      refine wp_lcmp_ne (tgt := 44) (pc := 15) G dX5_endOf_15 dX5_endOf_16 (by have h9 := okS_and (b := M 0 2) hok; omega) (by omega) (by decide) (fun h_15 => ?_) (fun h_15 => ?_)
      · refine wp_lconst0 (pc := 44) G dX5_endOf_44 ?_
        exact wm_lret (pc := 45) G R9 dX5_endOf_45 ⟨rfl, by rw [he, endZ_sea (by rw [← hh]; omega)]⟩
      · refine wp_aload_n (pc := 19) G dX5_endOf_19 rfl 1 rfl ?_
        refine wp_lload_n (pc := 20) G dX5_endOf_20 rfl 0 rfl ?_
        refine wm_calli1 (pc := 21) G dX5_endOf_21 kX5_102 (ct_way hg hL hok) (by decide) (by decide) (Nat.le_of_ble_eq_true rfl) (fun z_21 M_21 h_21 => ?_)
        obtain ⟨rfl, h_21⟩ := h_21
        subst h_21
        have hwr := way_r hL h
        have hwb : -1 ≤ way (M 0) h ∧ way (M 0) h ≤ 35 := by
          rcases hwr with h9 | ⟨_, _, _, h9, _⟩
          · omega
          · have := h9.lt hL; omega
        refine wp_istore (L' := [(4, _), (2, _), (0, _), (1, _)]) (pc := 24) G dX5_endOf_24 (by decide) rfl ?_
        refine wp_iload (pc := 26) G dX5_endOf_26 0 rfl ?_
        refine wp_iconst (pc := 28) G dX5_endOf_28 ?_
        refine wp_icmp_ne (tgt := 34) (pc := 29) G dX5_endOf_29 (by omega) (by omega) (by decide) (fun h_29 => ?_) (fun h_29 => ?_)
        · refine wp_aload_n (pc := 34) G dX5_endOf_34 rfl 2 rfl ?_
          refine wp_iload (pc := 35) G dX5_endOf_35 0 rfl ?_
          refine wm_calll1 (pc := 37) G dX5_endOf_37 kX5_98 (ct_plain hg hL (hwr.elim (fun h9 => absurd h9 h_29) (fun ⟨_, _, _, h9, _⟩ => h9))) (by decide) (by decide) (Nat.le_of_ble_eq_true rfl) (fun z_37 M_37 h_37 => ?_)
          obtain ⟨rfl, h_37⟩ := h_37
          refine wp_lstore_n (L' := [(2, _), (4, _), (0, _), (1, _)]) (pc := 40) G dX5_endOf_40 rfl (by decide) rfl ?_
          refine wp_goto (tgt := 6) (pc := 41) G dX5_endOf_41 (by decide) ?_
          refine wp_sub (L' := [(2, _), (0, _), (1, _)]) [0, 2, 3] rfl ?_
          have hnx : nxt (M 0) x = way (M 0) h := by unfold nxt; rw [← hh, if_neg (by omega)]
          have hne : nxt (M 0) x ≠ -1 := by rw [hnx]; exact h_29
          have hr := (nxt_r hL hx).resolve_left hne
          exact ih _ _ hr.1 (by rw [hnx]; exact h_37.e) (by rw [he, endZ_step hL hx hne]) (by omega)
        · refine wp_lload_n (pc := 32) G dX5_endOf_32 rfl 1 rfl ?_
          have hnx : nxt (M 0) x = way (M 0) h := by unfold nxt; rw [← hh, if_neg (by omega)]
          exact wm_lret (pc := 33) G R9 dX5_endOf_33 ⟨rfl, by rw [he, endZ_pit (hnx.trans h_29) (by rw [← hh]; omega), ← hh]⟩
  refine wp_aload_n (pc := 0) G dX5_endOf_0 rfl 0 rfl ?_
  refine wp_iload_n (pc := 1) G dX5_endOf_1 rfl 1 rfl ?_
  refine wm_calll1 (pc := 2) G dX5_endOf_2 kX5_98 (ct_plain hg hL hc) (by decide) (by decide) (Nat.le_of_ble_eq_true rfl) (fun z_2 M_2 h_2 => ?_)
  obtain ⟨rfl, h_2⟩ := h_2
  refine wp_lstore_n (L' := [(2, _), (0, _), (1, _)]) (pc := 5) G dX5_endOf_5 rfl (by decide) rfl ?_
  exact loop 101 c _ hc h_2.e rfl (by have := hL.hg (hc.lt hL); omega)
theorem ma1_s {M : Nat → Int → Int} {k : Nat} {i z : Int} : ma1 M k i z k = fup (M k) i z := by simp [ma1]
theorem ma1_n {M : Nat → Int → Int} {k a : Nat} {i z : Int} (h : a ≠ k) : ma1 M k i z a = M a := by simp [ma1, h]
theorem orZ_0 {x : Int} (h : 0 ≤ x) : orZ x 0 = x := by
  unfold orZ
  rw [show (0 : Int).toNat = 0 from rfl, Nat.or_zero]
  omega
set_option maxHeartbeats 4000000 in
theorem ct_finds {g : GV} (hg : GOk g) {ad : Nat → Nat} {M : Nat → Int → Int} (hL : okL (M 0)) : CMv g ad yX5_finds cX5_finds 5 7 [] M (fun M' => fr [0, 5] M M' ∧ Found (M 0) (M' 0)) := by
  refine wm_ofv hg (by decide +kernel) (Nat.le_of_ble_eq_true rfl) (fun F G R9 => ?_)
  have G : FxOk g F cX5_finds RX5 5 7 := G
  refine wp_loc (L' := [(0, _)]) rfl ?_
  have hmm := hL.m
  have loop3 : ∀ (n : Nat) (c x : Int) (M1 : Nat → Int → Int), (0 ≤ c ∧ c ≤ mny (M 0)) → (mny (M 0) + 1 ≤ c + n) → (fr [0, 5] M M1) → (x = cnt (M 0) c) → (∀ j, isC (M 0) j → M1 5 j = endZ (M 0) j) → (FI (M 0) c (M1 0)) → Wp g F [MB g ad M1] 0 0 67 [(2, iV c), (1, iV x), (0, .ref (ad 25))] [] := by
    intro n
    induction n with
    | zero =>
      intro c x M1 hc hn hf hx h5 hI
      exfalso
      omega
    | succ n ih =>
      intro c x M1 hc hn hf hx h5 hI
      have hxr := cnt_r (az := M 0) hc.1
      rw [← hx] at hxr
      have hs1 : sameL (M 0) (M1 0) := ⟨hI.1 0 (by omega) (by omega) (by omega), hI.1 1 (by omega) (by omega) (by omega), hI.1 2 (by omega) (by omega) (by omega), fun k hk => hI.1 k (by omega) (by omega) (by omega)⟩
      refine wp_iload_n (pc := 67) G dX5_finds_67 rfl 0 rfl ?_
      refine wp_aload_n (pc := 68) G dX5_finds_68 rfl 2 rfl ?_
      refine wm_calli0 (pc := 69) G dX5_finds_69 kX5_61 (ct_many hg) (by decide) (by decide) (Nat.le_of_ble_eq_true rfl) (fun z_69 M_69 h_69 => ?_)
      obtain ⟨rfl, h_69⟩ := h_69
      rw [hs1.m] at h_69
      subst h_69
      refine wp_icmp_ge (tgt := 241) (pc := 72) G dX5_finds_72 (by omega) (by omega) (by decide) (fun h_72 => ?_) (fun h_72 => ?_)
      · refine wp_aload_n (pc := 241) G dX5_finds_241 rfl 2 rfl ?_
        refine wm_get_0 (pc := 242) G dX5_finds_242 fX5_7_4 ?_
        refine wp_bipush (pc := 245) G dX5_finds_245 (by decide) ?_
        refine wp_iload_n (pc := 247) G dX5_finds_247 rfl 1 rfl ?_
        refine wp_i2l (pc := 248) G dX5_finds_248 (by omega) ?_
        refine wm_ast_0 (pc := 249) G dX5_finds_249 (by omega) ?_
        exact wm_vret (pc := 250) G R9 dX5_finds_250 ⟨hf.a1 (by decide), by
          have hcm : c = mny (M 0) := by omega
          rw [hcm] at hI hx
          constructor
          · obtain ⟨q1, q2, q3, q4, q5, q6, q7⟩ := hI
            rw [ma1_s]
            refine ⟨fun j h1 h2 h3 => ?_, fun b hb => ?_, fun k hk => ?_, fun j hj => ?_, fun k hk => ?_, ?_, fun b hb => ?_⟩
            · rw [fup_n _ _ h2]; exact q1 j h1 h2 h3
            · rw [fup_n _ _ (by have := hb.1; omega)]; exact q2 b hb
            · rw [fup_n _ _ (by omega)]
              refine ⟨(q3 k hk).1, fun b hb => ?_⟩
              rw [fup_n _ _ (by omega)]; exact (q3 k hk).2 b hb
            · rw [fup_n _ _ (by omega)]; exact q4 j hj
            · rw [fup_n _ _ (by omega)]; exact q5 k hk
            · rw [fup_n _ _ (by omega)]; exact q6
            · rw [fup_n _ _ (by omega)]; exact q7 b hb
          · rw [ma1_s, fup_s, hx]⟩
      · have hcC : isC (M 0) c := ⟨hc.1, h_72⟩
        have hcl := hcC.lt hL
        have ec : M1 5 c = endZ (M 0) c := h5 c hcC
        have oc := endZ_ok (az := M 0) c
        have hnr := cnt_r (az := M 0) hcC.1
        refine wp_aload_n (pc := 75) G dX5_finds_75 rfl 2 rfl ?_
        refine wm_get_5 (pc := 76) G dX5_finds_76 fX5_19_4 ?_
        refine wp_iload_n (pc := 79) G dX5_finds_79 rfl 0 rfl ?_
        refine wm_ald_5 (pc := 80) G dX5_finds_80 (by omega) ?_
        refine wp_lconst0 (pc := 81) G dX5_finds_81 ?_
        refine wp_lcmp_eq (tgt := 235) (pc := 82) G dX5_finds_82 dX5_finds_83 (by rw [ec]; omega) (by omega) (by decide) (fun h_82 => ?_) (fun h_82 => ?_)
        · refine wp_iinc (L' := [(2, _), (1, _), (0, _)]) (pc := 235) G dX5_finds_235 0 rfl (by decide) rfl ?_
          refine wp_goto (tgt := 67) (pc := 238) G dX5_finds_238 (by decide) ?_
          have hnP : ¬ isP0 (M 0) c := by
            rintro ⟨q1, q2⟩
            first
              | exact q1 (by rw [← ec]; omega)
              | exact h_96 (by rw [ec]; exact q2.2.1)
              | exact h_109 (isLow_u h_105 (ec ▸ q2))
          exact ih (c + 1) x M1 (by omega) (by omega) hf (by rw [cnt_n hcC.1 hnP]; exact hx) h5 (FI_no hcC.1 hI hnP)
        · refine wp_aload_n (pc := 86) G dX5_finds_86 rfl 2 rfl ?_
          refine wm_get_5 (pc := 87) G dX5_finds_87 fX5_19_4 ?_
          refine wp_iload_n (pc := 90) G dX5_finds_90 rfl 0 rfl ?_
          refine wm_ald_5 (pc := 91) G dX5_finds_91 (by omega) ?_
          refine wp_iload_n (pc := 92) G dX5_finds_92 rfl 0 rfl ?_
          refine ws_calli2 (pc := 93) G dX5_finds_93 kX5_91 (ct_has hg (by rw [ec]; omega) (by omega)) (by decide) (by decide) (Nat.le_of_ble_eq_true rfl) (fun z_93 h_93 => ?_)
          refine wp_if_eq (tgt := 235) (pc := 96) G dX5_finds_96 h_93.r (by decide) (fun h_96 => ?_) (fun h_96 => ?_)
          · have h_96 := h_93.f h_96
            refine wp_iinc (L' := [(2, _), (1, _), (0, _)]) (pc := 235) G dX5_finds_235 0 rfl (by decide) rfl ?_
            refine wp_goto (tgt := 67) (pc := 238) G dX5_finds_238 (by decide) ?_
            have hnP : ¬ isP0 (M 0) c := by
              rintro ⟨q1, q2⟩
              first
                | exact q1 (by rw [← ec]; omega)
                | exact h_96 (by rw [ec]; exact q2.2.1)
                | exact h_109 (isLow_u h_105 (ec ▸ q2))
            exact ih (c + 1) x M1 (by omega) (by omega) hf (by rw [cnt_n hcC.1 hnP]; exact hx) h5 (FI_no hcC.1 hI hnP)
          · have h_96 := h_93.t h_96
            refine wp_aload_n (pc := 99) G dX5_finds_99 rfl 2 rfl ?_
            refine wm_get_5 (pc := 100) G dX5_finds_100 fX5_19_4 ?_
            refine wp_iload_n (pc := 103) G dX5_finds_103 rfl 0 rfl ?_
            refine wm_ald_5 (pc := 104) G dX5_finds_104 (by omega) ?_
            refine ws_calli1 (pc := 105) G dX5_finds_105 kX5_111 (ct_lowest hg (by rw [ec]; exact oc) h_82) (by decide) (by decide) (Nat.le_of_ble_eq_true rfl) (fun z_105 h_105 => ?_)
            refine wp_iload_n (pc := 108) G dX5_finds_108 rfl 0 rfl ?_
            refine wp_icmp_ne (tgt := 235) (pc := 109) G dX5_finds_109 (by have h9 := h_105.1; omega) (by omega) (by decide) (fun h_109 => ?_) (fun h_109 => ?_)
            · refine wp_iinc (L' := [(2, _), (1, _), (0, _)]) (pc := 235) G dX5_finds_235 0 rfl (by decide) rfl ?_
              refine wp_goto (tgt := 67) (pc := 238) G dX5_finds_238 (by decide) ?_
              have hnP : ¬ isP0 (M 0) c := by
                rintro ⟨q1, q2⟩
                first
                  | exact q1 (by rw [← ec]; omega)
                  | exact h_96 (by rw [ec]; exact q2.2.1)
                  | exact h_109 (isLow_u h_105 (ec ▸ q2))
              exact ih (c + 1) x M1 (by omega) (by omega) hf (by rw [cnt_n hcC.1 hnP]; exact hx) h5 (FI_no hcC.1 hI hnP)
            · refine wp_iconst (pc := 112) G dX5_finds_112 ?_
              refine wp_istore_n (L' := [(3, _), (2, _), (1, _), (0, _)]) (pc := 113) G dX5_finds_113 rfl (by decide) rfl ?_
              have hP : isP0 (M 0) c := by
                have h9 := h_105
                rw [h_109, ec] at h9
                exact ⟨by rw [← ec]; exact h_82, h9⟩
              have inner : ∀ (n : Nat) (b : Int) (M2 : Nat → Int → Int), (0 ≤ b ∧ b ≤ mny (M 0)) → (mny (M 0) + 1 ≤ b + n) → (fr [0, 5] M M2) → (M2 5 = M1 5) → (FJ (M 0) c b (M1 0) (M2 0)) → Wp g F [MB g ad M2] 0 0 114 [(3, iV b), (2, iV c), (1, iV x), (0, .ref (ad 25))] [] := by
                intro n
                induction n with
                | zero =>
                  intro b M2 hb hn2 hf2 h52 hJ
                  exfalso
                  omega
                | succ n ih2 =>
                  intro b M2 hb hn2 hf2 h52 hJ
                  have hs2 : sameL (M 0) (M2 0) := by
                    obtain ⟨q1, -⟩ := hJ
                    refine ⟨by rw [q1 0 (by omega) (by omega)]; exact hs1.1, by rw [q1 1 (by omega) (by omega)]; exact hs1.2.1, by rw [q1 2 (by omega) (by omega)]; exact hs1.2.2.1, fun k hk => by rw [q1 k (by omega) (by omega)]; exact hs1.2.2.2 k hk⟩
                  have hmx : okS (M2 0 (152 + x)) := by rw [hx]; exact hJ.2.2.1
                  refine wp_iload_n (pc := 114) G dX5_finds_114 rfl 0 rfl ?_
                  refine wp_aload_n (pc := 115) G dX5_finds_115 rfl 3 rfl ?_
                  refine wm_calli0 (pc := 116) G dX5_finds_116 kX5_61 (ct_many hg) (by decide) (by decide) (Nat.le_of_ble_eq_true rfl) (fun z_116 M_116 h_116 => ?_)
                  obtain ⟨rfl, h_116⟩ := h_116
                  rw [hs2.m] at h_116
                  subst h_116
                  refine wp_icmp_ge (tgt := 204) (pc := 119) G dX5_finds_119 (by omega) (by omega) (by decide) (fun h_119 => ?_) (fun h_119 => ?_)
                  · have ec : M2 5 c = endZ (M 0) c := by rw [h52]; exact h5 c hcC
                    have oc := endZ_ok (az := M 0) c
                    have hbm : b = mny (M 0) := by omega
                    have h512 : M2 0 512 = M1 0 512 := hJ.1 512 (by omega) (by omega)
                    have ho512 : okS (M1 0 512) := hI.2.2.2.2.2.1
                    refine wp_aload_n (pc := 204) G dX5_finds_204 rfl 3 rfl ?_
                    refine wm_get_0 (pc := 205) G dX5_finds_205 fX5_7_4 ?_
                    refine wp_sipush (pc := 208) G dX5_finds_208 (by decide) ?_
                    refine wp_dup2 (pc := 211) G dX5_finds_211 rfl rfl ?_
                    refine wm_ald_0 (pc := 212) G dX5_finds_212 (by omega) ?_
                    refine wp_aload_n (pc := 213) G dX5_finds_213 rfl 3 rfl ?_
                    refine wm_get_5 (pc := 214) G dX5_finds_214 fX5_19_4 ?_
                    refine wp_iload_n (pc := 217) G dX5_finds_217 rfl 1 rfl ?_
                    refine wm_ald_5 (pc := 218) G dX5_finds_218 (by omega) ?_
                    refine wp_lor (pc := 219) G dX5_finds_219 (by rw [h512]; omega) (by rw [ec]; omega) ?_
                    refine wm_ast_0 (pc := 220) G dX5_finds_220 (by omega) ?_
                    refine wp_aload_n (pc := 221) G dX5_finds_221 rfl 3 rfl ?_
                    refine wm_get_0 (pc := 222) G dX5_finds_222 fX5_7_4 ?_
                    refine wp_sipush (pc := 225) G dX5_finds_225 (by decide) ?_
                    refine wp_iload_n (pc := 228) G dX5_finds_228 rfl 2 rfl ?_
                    refine wp_iadd (pc := 229) G dX5_finds_229 ?_
                    refine wp_lconst1 (pc := 230) G dX5_finds_230 ?_
                    refine wm_ast_0 (pc := 231) G dX5_finds_231 (by omega) ?_
                    refine wp_iinc (L' := [(1, _), (3, _), (2, _), (0, _)]) (pc := 232) G dX5_finds_232 2 rfl (by decide) rfl ?_
                    refine wp_iinc (L' := [(2, _), (1, _), (3, _), (0, _)]) (pc := 235) G dX5_finds_235 2 rfl (by decide) rfl ?_
                    refine wp_goto (tgt := 67) (pc := 238) G dX5_finds_238 (by decide) ?_
                    refine wp_sub (L' := [(2, _), (1, _), (0, _)]) [0, 1, 3] rfl ?_
                    refine ih (c + 1) (x + 1) _ (by omega) (by omega) ((hf2.a1 (by decide)).a1 (by decide)) (by rw [cnt_y hcC.1 hP, hx]) (fun j hj => by
                      show M2 5 j = _
                      rw [h52]; exact h5 j hj) ?_
                    rw [hbm] at hJ
                    refine FI_end hL hcC hP hI hJ ?_ ?_ ?_
                    · rw [ma1_s, fup_n _ _ (by omega), ma1_s, fup_s, ec]
                    · rw [ma1_s, ← hx, fup_s]
                    · intro j q1 q2
                      rw [← hx] at q2
                      rw [ma1_s, fup_n _ _ q2, ma1_s, fup_n _ _ q1]
                  · have hbC : isC (M 0) b := ⟨hb.1, h_119⟩
                    have hbl := hbC.lt hL
                    have eb : M2 5 b = endZ (M 0) b := by rw [h52]; exact h5 b hbC
                    have ec : M2 5 c = endZ (M 0) c := by rw [h52]; exact h5 c hcC
                    have ob := endZ_ok (az := M 0) b
                    have oc := endZ_ok (az := M 0) c
                    refine wp_aload_n (pc := 122) G dX5_finds_122 rfl 3 rfl ?_
                    refine wm_get_5 (pc := 123) G dX5_finds_123 fX5_19_4 ?_
                    refine wp_iload_n (pc := 126) G dX5_finds_126 rfl 0 rfl ?_
                    refine wm_ald_5 (pc := 127) G dX5_finds_127 (by omega) ?_
                    refine wp_aload_n (pc := 128) G dX5_finds_128 rfl 3 rfl ?_
                    refine wm_get_5 (pc := 129) G dX5_finds_129 fX5_19_4 ?_
                    refine wp_iload_n (pc := 132) G dX5_finds_132 rfl 1 rfl ?_
                    refine wm_ald_5 (pc := 133) G dX5_finds_133 (by omega) ?_
                    refine wp_lcmp_ne (tgt := 142) (pc := 134) G dX5_finds_134 dX5_finds_135 (by rw [eb]; omega) (by rw [ec]; omega) (by decide) (fun h_134 => ?_) (fun h_134 => ?_)
                    · refine wp_iconst (pc := 142) G dX5_finds_142 ?_
                      refine wp_istore (L' := [(4, _), (3, _), (2, _), (1, _), (0, _)]) (pc := 143) G dX5_finds_143 (by decide) rfl ?_
                      refine wp_aload_n (pc := 145) G dX5_finds_145 rfl 4 rfl ?_
                      refine wm_get_0 (pc := 146) G dX5_finds_146 fX5_7_4 ?_
                      refine wp_bipush (pc := 149) G dX5_finds_149 (by decide) ?_
                      refine wp_iload_n (pc := 151) G dX5_finds_151 rfl 1 rfl ?_
                      refine wp_iadd (pc := 152) G dX5_finds_152 ?_
                      refine wp_iload (pc := 153) G dX5_finds_153 0 rfl ?_
                      refine wp_if_eq (tgt := 163) (pc := 155) G dX5_finds_155 (by omega) (by decide) (fun h_155 => ?_) (fun h_155 => ?_)
                      · refine wp_aload_n (pc := 163) G dX5_finds_163 rfl 4 rfl ?_
                        refine wm_get_0 (pc := 164) G dX5_finds_164 fX5_7_4 ?_
                        refine wp_bipush (pc := 167) G dX5_finds_167 (by decide) ?_
                        refine wp_iload_n (pc := 169) G dX5_finds_169 rfl 1 rfl ?_
                        refine wp_iadd (pc := 170) G dX5_finds_170 ?_
                        refine wm_ald_0 (pc := 171) G dX5_finds_171 (by omega) ?_
                        refine wm_ast_0 (pc := 172) G dX5_finds_172 (by omega) ?_
                        refine wp_aload_n (pc := 173) G dX5_finds_173 rfl 4 rfl ?_
                        refine wm_get_0 (pc := 174) G dX5_finds_174 fX5_7_4 ?_
                        refine wp_sipush (pc := 177) G dX5_finds_177 (by decide) ?_
                        refine wp_iload_n (pc := 180) G dX5_finds_180 rfl 3 rfl ?_
                        refine wp_iadd (pc := 181) G dX5_finds_181 ?_
                        refine wp_dup2 (pc := 182) G dX5_finds_182 rfl rfl ?_
                        refine wm_ald_0 (pc := 183) G dX5_finds_183 (by omega) ?_
                        refine wp_iload (pc := 184) G dX5_finds_184 0 rfl ?_
                        refine wp_if_eq (tgt := 195) (pc := 186) G dX5_finds_186 (by omega) (by decide) (fun h_186 => ?_) (fun h_186 => ?_)
                        · refine wp_lconst0 (pc := 195) G dX5_finds_195 ?_
                          refine wp_lor (pc := 196) G dX5_finds_196 (by show 0 ≤ fup (M2 0) _ _ _; rw [fup_n _ _ (by omega)]; exact hmx.1) (by first | omega | (have h9 := okS_bit hbl; omega)) ?_
                          refine wm_ast_0 (pc := 197) G dX5_finds_197 (by omega) ?_
                          refine wp_iinc (L' := [(3, _), (4, _), (2, _), (1, _), (0, _)]) (pc := 198) G dX5_finds_198 1 rfl (by decide) rfl ?_
                          refine wp_goto (tgt := 114) (pc := 201) G dX5_finds_201 (by decide) ?_
                          refine wp_sub (L' := [(3, _), (2, _), (1, _), (0, _)]) [0, 2, 3, 4] rfl ?_
                          first
                            | (exfalso; omega)
                            | exact ih2 (b + 1) _ (by omega) (by omega) ((hf2.a1 (by decide)).a1 (by decide)) h52 (FJ_y hL hcC hbC hJ (by rw [← eb, ← ec]; exact h_134) (by
                                rw [ma1_s, fup_n _ _ (by omega), ma1_s, fup_s, hx]) (by
                                rw [← hx, ma1_s, fup_s, ma1_s, fup_n _ _ (by omega)]) (fun j h1 h2 => by
                                rw [← hx] at h2
                                rw [ma1_s, fup_n _ _ h2, ma1_s, fup_n _ _ h1]))
                            | exact ih2 (b + 1) _ (by omega) (by omega) ((hf2.a1 (by decide)).a1 (by decide)) h52 (FJ_n hbC hJ (by rw [← eb, ← ec]; exact h_134) (fun j => by
                                rw [ma1_s, ma1_s, fup_n (M2 0) _ (show (152 + x : Int) ≠ 116 + b by omega)]
                                by_cases e1 : j = 152 + x
                                · rw [e1, fup_s]
                                  exact orZ_0 hmx.1
                                · rw [fup_n _ _ e1]
                                  by_cases e2 : j = 116 + b
                                  · rw [e2, fup_s]
                                  · rw [fup_n _ _ e2]))
                        · refine wp_lconst1 (pc := 189) G dX5_finds_189 ?_
                          refine wp_iload_n (pc := 190) G dX5_finds_190 rfl 1 rfl ?_
                          refine wp_bit (pc := 191) G dX5_finds_191 (by omega) ?_
                          refine wp_goto (tgt := 196) (pc := 192) G dX5_finds_192 (by decide) ?_
                          refine wp_lor (pc := 196) G dX5_finds_196 (by show 0 ≤ fup (M2 0) _ _ _; rw [fup_n _ _ (by omega)]; exact hmx.1) (by first | omega | (have h9 := okS_bit hbl; omega)) ?_
                          refine wm_ast_0 (pc := 197) G dX5_finds_197 (by omega) ?_
                          refine wp_iinc (L' := [(3, _), (4, _), (2, _), (1, _), (0, _)]) (pc := 198) G dX5_finds_198 1 rfl (by decide) rfl ?_
                          refine wp_goto (tgt := 114) (pc := 201) G dX5_finds_201 (by decide) ?_
                          refine wp_sub (L' := [(3, _), (2, _), (1, _), (0, _)]) [0, 2, 3, 4] rfl ?_
                          first
                            | (exfalso; omega)
                            | exact ih2 (b + 1) _ (by omega) (by omega) ((hf2.a1 (by decide)).a1 (by decide)) h52 (FJ_y hL hcC hbC hJ (by rw [← eb, ← ec]; exact h_134) (by
                                rw [ma1_s, fup_n _ _ (by omega), ma1_s, fup_s, hx]) (by
                                rw [← hx, ma1_s, fup_s, ma1_s, fup_n _ _ (by omega)]) (fun j h1 h2 => by
                                rw [← hx] at h2
                                rw [ma1_s, fup_n _ _ h2, ma1_s, fup_n _ _ h1]))
                            | exact ih2 (b + 1) _ (by omega) (by omega) ((hf2.a1 (by decide)).a1 (by decide)) h52 (FJ_n hbC hJ (by rw [← eb, ← ec]; exact h_134) (fun j => by
                                rw [ma1_s, ma1_s, fup_n (M2 0) _ (show (152 + x : Int) ≠ 116 + b by omega)]
                                by_cases e1 : j = 152 + x
                                · rw [e1, fup_s]
                                  exact orZ_0 hmx.1
                                · rw [fup_n _ _ e1]
                                  by_cases e2 : j = 116 + b
                                  · rw [e2, fup_s]
                                  · rw [fup_n _ _ e2]))
                      · refine wp_iload_n (pc := 158) G dX5_finds_158 rfl 3 rfl ?_
                        refine wp_i2l (pc := 159) G dX5_finds_159 (by omega) ?_
                        refine wp_goto (tgt := 172) (pc := 160) G dX5_finds_160 (by decide) ?_
                        refine wm_ast_0 (pc := 172) G dX5_finds_172 (by omega) ?_
                        refine wp_aload_n (pc := 173) G dX5_finds_173 rfl 4 rfl ?_
                        refine wm_get_0 (pc := 174) G dX5_finds_174 fX5_7_4 ?_
                        refine wp_sipush (pc := 177) G dX5_finds_177 (by decide) ?_
                        refine wp_iload_n (pc := 180) G dX5_finds_180 rfl 3 rfl ?_
                        refine wp_iadd (pc := 181) G dX5_finds_181 ?_
                        refine wp_dup2 (pc := 182) G dX5_finds_182 rfl rfl ?_
                        refine wm_ald_0 (pc := 183) G dX5_finds_183 (by omega) ?_
                        refine wp_iload (pc := 184) G dX5_finds_184 0 rfl ?_
                        refine wp_if_eq (tgt := 195) (pc := 186) G dX5_finds_186 (by omega) (by decide) (fun h_186 => ?_) (fun h_186 => ?_)
                        · refine wp_lconst0 (pc := 195) G dX5_finds_195 ?_
                          refine wp_lor (pc := 196) G dX5_finds_196 (by show 0 ≤ fup (M2 0) _ _ _; rw [fup_n _ _ (by omega)]; exact hmx.1) (by first | omega | (have h9 := okS_bit hbl; omega)) ?_
                          refine wm_ast_0 (pc := 197) G dX5_finds_197 (by omega) ?_
                          refine wp_iinc (L' := [(3, _), (4, _), (2, _), (1, _), (0, _)]) (pc := 198) G dX5_finds_198 1 rfl (by decide) rfl ?_
                          refine wp_goto (tgt := 114) (pc := 201) G dX5_finds_201 (by decide) ?_
                          refine wp_sub (L' := [(3, _), (2, _), (1, _), (0, _)]) [0, 2, 3, 4] rfl ?_
                          first
                            | (exfalso; omega)
                            | exact ih2 (b + 1) _ (by omega) (by omega) ((hf2.a1 (by decide)).a1 (by decide)) h52 (FJ_y hL hcC hbC hJ (by rw [← eb, ← ec]; exact h_134) (by
                                rw [ma1_s, fup_n _ _ (by omega), ma1_s, fup_s, hx]) (by
                                rw [← hx, ma1_s, fup_s, ma1_s, fup_n _ _ (by omega)]) (fun j h1 h2 => by
                                rw [← hx] at h2
                                rw [ma1_s, fup_n _ _ h2, ma1_s, fup_n _ _ h1]))
                            | exact ih2 (b + 1) _ (by omega) (by omega) ((hf2.a1 (by decide)).a1 (by decide)) h52 (FJ_n hbC hJ (by rw [← eb, ← ec]; exact h_134) (fun j => by
                                rw [ma1_s, ma1_s, fup_n (M2 0) _ (show (152 + x : Int) ≠ 116 + b by omega)]
                                by_cases e1 : j = 152 + x
                                · rw [e1, fup_s]
                                  exact orZ_0 hmx.1
                                · rw [fup_n _ _ e1]
                                  by_cases e2 : j = 116 + b
                                  · rw [e2, fup_s]
                                  · rw [fup_n _ _ e2]))
                        · refine wp_lconst1 (pc := 189) G dX5_finds_189 ?_
                          refine wp_iload_n (pc := 190) G dX5_finds_190 rfl 1 rfl ?_
                          refine wp_bit (pc := 191) G dX5_finds_191 (by omega) ?_
                          refine wp_goto (tgt := 196) (pc := 192) G dX5_finds_192 (by decide) ?_
                          refine wp_lor (pc := 196) G dX5_finds_196 (by show 0 ≤ fup (M2 0) _ _ _; rw [fup_n _ _ (by omega)]; exact hmx.1) (by first | omega | (have h9 := okS_bit hbl; omega)) ?_
                          refine wm_ast_0 (pc := 197) G dX5_finds_197 (by omega) ?_
                          refine wp_iinc (L' := [(3, _), (4, _), (2, _), (1, _), (0, _)]) (pc := 198) G dX5_finds_198 1 rfl (by decide) rfl ?_
                          refine wp_goto (tgt := 114) (pc := 201) G dX5_finds_201 (by decide) ?_
                          refine wp_sub (L' := [(3, _), (2, _), (1, _), (0, _)]) [0, 2, 3, 4] rfl ?_
                          first
                            | (exfalso; omega)
                            | exact ih2 (b + 1) _ (by omega) (by omega) ((hf2.a1 (by decide)).a1 (by decide)) h52 (FJ_y hL hcC hbC hJ (by rw [← eb, ← ec]; exact h_134) (by
                                rw [ma1_s, fup_n _ _ (by omega), ma1_s, fup_s, hx]) (by
                                rw [← hx, ma1_s, fup_s, ma1_s, fup_n _ _ (by omega)]) (fun j h1 h2 => by
                                rw [← hx] at h2
                                rw [ma1_s, fup_n _ _ h2, ma1_s, fup_n _ _ h1]))
                            | exact ih2 (b + 1) _ (by omega) (by omega) ((hf2.a1 (by decide)).a1 (by decide)) h52 (FJ_n hbC hJ (by rw [← eb, ← ec]; exact h_134) (fun j => by
                                rw [ma1_s, ma1_s, fup_n (M2 0) _ (show (152 + x : Int) ≠ 116 + b by omega)]
                                by_cases e1 : j = 152 + x
                                · rw [e1, fup_s]
                                  exact orZ_0 hmx.1
                                · rw [fup_n _ _ e1]
                                  by_cases e2 : j = 116 + b
                                  · rw [e2, fup_s]
                                  · rw [fup_n _ _ e2]))
                    · refine wp_iconst (pc := 138) G dX5_finds_138 ?_
                      refine wp_goto (tgt := 143) (pc := 139) G dX5_finds_139 (by decide) ?_
                      refine wp_istore (L' := [(4, _), (3, _), (2, _), (1, _), (0, _)]) (pc := 143) G dX5_finds_143 (by decide) rfl ?_
                      refine wp_aload_n (pc := 145) G dX5_finds_145 rfl 4 rfl ?_
                      refine wm_get_0 (pc := 146) G dX5_finds_146 fX5_7_4 ?_
                      refine wp_bipush (pc := 149) G dX5_finds_149 (by decide) ?_
                      refine wp_iload_n (pc := 151) G dX5_finds_151 rfl 1 rfl ?_
                      refine wp_iadd (pc := 152) G dX5_finds_152 ?_
                      refine wp_iload (pc := 153) G dX5_finds_153 0 rfl ?_
                      refine wp_if_eq (tgt := 163) (pc := 155) G dX5_finds_155 (by omega) (by decide) (fun h_155 => ?_) (fun h_155 => ?_)
                      · refine wp_aload_n (pc := 163) G dX5_finds_163 rfl 4 rfl ?_
                        refine wm_get_0 (pc := 164) G dX5_finds_164 fX5_7_4 ?_
                        refine wp_bipush (pc := 167) G dX5_finds_167 (by decide) ?_
                        refine wp_iload_n (pc := 169) G dX5_finds_169 rfl 1 rfl ?_
                        refine wp_iadd (pc := 170) G dX5_finds_170 ?_
                        refine wm_ald_0 (pc := 171) G dX5_finds_171 (by omega) ?_
                        refine wm_ast_0 (pc := 172) G dX5_finds_172 (by omega) ?_
                        refine wp_aload_n (pc := 173) G dX5_finds_173 rfl 4 rfl ?_
                        refine wm_get_0 (pc := 174) G dX5_finds_174 fX5_7_4 ?_
                        refine wp_sipush (pc := 177) G dX5_finds_177 (by decide) ?_
                        refine wp_iload_n (pc := 180) G dX5_finds_180 rfl 3 rfl ?_
                        refine wp_iadd (pc := 181) G dX5_finds_181 ?_
                        refine wp_dup2 (pc := 182) G dX5_finds_182 rfl rfl ?_
                        refine wm_ald_0 (pc := 183) G dX5_finds_183 (by omega) ?_
                        refine wp_iload (pc := 184) G dX5_finds_184 0 rfl ?_
                        refine wp_if_eq (tgt := 195) (pc := 186) G dX5_finds_186 (by omega) (by decide) (fun h_186 => ?_) (fun h_186 => ?_)
                        · refine wp_lconst0 (pc := 195) G dX5_finds_195 ?_
                          refine wp_lor (pc := 196) G dX5_finds_196 (by show 0 ≤ fup (M2 0) _ _ _; rw [fup_n _ _ (by omega)]; exact hmx.1) (by first | omega | (have h9 := okS_bit hbl; omega)) ?_
                          refine wm_ast_0 (pc := 197) G dX5_finds_197 (by omega) ?_
                          refine wp_iinc (L' := [(3, _), (4, _), (2, _), (1, _), (0, _)]) (pc := 198) G dX5_finds_198 1 rfl (by decide) rfl ?_
                          refine wp_goto (tgt := 114) (pc := 201) G dX5_finds_201 (by decide) ?_
                          refine wp_sub (L' := [(3, _), (2, _), (1, _), (0, _)]) [0, 2, 3, 4] rfl ?_
                          first
                            | (exfalso; omega)
                            | exact ih2 (b + 1) _ (by omega) (by omega) ((hf2.a1 (by decide)).a1 (by decide)) h52 (FJ_y hL hcC hbC hJ (by rw [← eb, ← ec]; exact h_134) (by
                                rw [ma1_s, fup_n _ _ (by omega), ma1_s, fup_s, hx]) (by
                                rw [← hx, ma1_s, fup_s, ma1_s, fup_n _ _ (by omega)]) (fun j h1 h2 => by
                                rw [← hx] at h2
                                rw [ma1_s, fup_n _ _ h2, ma1_s, fup_n _ _ h1]))
                            | exact ih2 (b + 1) _ (by omega) (by omega) ((hf2.a1 (by decide)).a1 (by decide)) h52 (FJ_n hbC hJ (by rw [← eb, ← ec]; exact h_134) (fun j => by
                                rw [ma1_s, ma1_s, fup_n (M2 0) _ (show (152 + x : Int) ≠ 116 + b by omega)]
                                by_cases e1 : j = 152 + x
                                · rw [e1, fup_s]
                                  exact orZ_0 hmx.1
                                · rw [fup_n _ _ e1]
                                  by_cases e2 : j = 116 + b
                                  · rw [e2, fup_s]
                                  · rw [fup_n _ _ e2]))
                        · refine wp_lconst1 (pc := 189) G dX5_finds_189 ?_
                          refine wp_iload_n (pc := 190) G dX5_finds_190 rfl 1 rfl ?_
                          refine wp_bit (pc := 191) G dX5_finds_191 (by omega) ?_
                          refine wp_goto (tgt := 196) (pc := 192) G dX5_finds_192 (by decide) ?_
                          refine wp_lor (pc := 196) G dX5_finds_196 (by show 0 ≤ fup (M2 0) _ _ _; rw [fup_n _ _ (by omega)]; exact hmx.1) (by first | omega | (have h9 := okS_bit hbl; omega)) ?_
                          refine wm_ast_0 (pc := 197) G dX5_finds_197 (by omega) ?_
                          refine wp_iinc (L' := [(3, _), (4, _), (2, _), (1, _), (0, _)]) (pc := 198) G dX5_finds_198 1 rfl (by decide) rfl ?_
                          refine wp_goto (tgt := 114) (pc := 201) G dX5_finds_201 (by decide) ?_
                          refine wp_sub (L' := [(3, _), (2, _), (1, _), (0, _)]) [0, 2, 3, 4] rfl ?_
                          first
                            | (exfalso; omega)
                            | exact ih2 (b + 1) _ (by omega) (by omega) ((hf2.a1 (by decide)).a1 (by decide)) h52 (FJ_y hL hcC hbC hJ (by rw [← eb, ← ec]; exact h_134) (by
                                rw [ma1_s, fup_n _ _ (by omega), ma1_s, fup_s, hx]) (by
                                rw [← hx, ma1_s, fup_s, ma1_s, fup_n _ _ (by omega)]) (fun j h1 h2 => by
                                rw [← hx] at h2
                                rw [ma1_s, fup_n _ _ h2, ma1_s, fup_n _ _ h1]))
                            | exact ih2 (b + 1) _ (by omega) (by omega) ((hf2.a1 (by decide)).a1 (by decide)) h52 (FJ_n hbC hJ (by rw [← eb, ← ec]; exact h_134) (fun j => by
                                rw [ma1_s, ma1_s, fup_n (M2 0) _ (show (152 + x : Int) ≠ 116 + b by omega)]
                                by_cases e1 : j = 152 + x
                                · rw [e1, fup_s]
                                  exact orZ_0 hmx.1
                                · rw [fup_n _ _ e1]
                                  by_cases e2 : j = 116 + b
                                  · rw [e2, fup_s]
                                  · rw [fup_n _ _ e2]))
                      · refine wp_iload_n (pc := 158) G dX5_finds_158 rfl 3 rfl ?_
                        refine wp_i2l (pc := 159) G dX5_finds_159 (by omega) ?_
                        refine wp_goto (tgt := 172) (pc := 160) G dX5_finds_160 (by decide) ?_
                        refine wm_ast_0 (pc := 172) G dX5_finds_172 (by omega) ?_
                        refine wp_aload_n (pc := 173) G dX5_finds_173 rfl 4 rfl ?_
                        refine wm_get_0 (pc := 174) G dX5_finds_174 fX5_7_4 ?_
                        refine wp_sipush (pc := 177) G dX5_finds_177 (by decide) ?_
                        refine wp_iload_n (pc := 180) G dX5_finds_180 rfl 3 rfl ?_
                        refine wp_iadd (pc := 181) G dX5_finds_181 ?_
                        refine wp_dup2 (pc := 182) G dX5_finds_182 rfl rfl ?_
                        refine wm_ald_0 (pc := 183) G dX5_finds_183 (by omega) ?_
                        refine wp_iload (pc := 184) G dX5_finds_184 0 rfl ?_
                        refine wp_if_eq (tgt := 195) (pc := 186) G dX5_finds_186 (by omega) (by decide) (fun h_186 => ?_) (fun h_186 => ?_)
                        · refine wp_lconst0 (pc := 195) G dX5_finds_195 ?_
                          refine wp_lor (pc := 196) G dX5_finds_196 (by show 0 ≤ fup (M2 0) _ _ _; rw [fup_n _ _ (by omega)]; exact hmx.1) (by first | omega | (have h9 := okS_bit hbl; omega)) ?_
                          refine wm_ast_0 (pc := 197) G dX5_finds_197 (by omega) ?_
                          refine wp_iinc (L' := [(3, _), (4, _), (2, _), (1, _), (0, _)]) (pc := 198) G dX5_finds_198 1 rfl (by decide) rfl ?_
                          refine wp_goto (tgt := 114) (pc := 201) G dX5_finds_201 (by decide) ?_
                          refine wp_sub (L' := [(3, _), (2, _), (1, _), (0, _)]) [0, 2, 3, 4] rfl ?_
                          first
                            | (exfalso; omega)
                            | exact ih2 (b + 1) _ (by omega) (by omega) ((hf2.a1 (by decide)).a1 (by decide)) h52 (FJ_y hL hcC hbC hJ (by rw [← eb, ← ec]; exact h_134) (by
                                rw [ma1_s, fup_n _ _ (by omega), ma1_s, fup_s, hx]) (by
                                rw [← hx, ma1_s, fup_s, ma1_s, fup_n _ _ (by omega)]) (fun j h1 h2 => by
                                rw [← hx] at h2
                                rw [ma1_s, fup_n _ _ h2, ma1_s, fup_n _ _ h1]))
                            | exact ih2 (b + 1) _ (by omega) (by omega) ((hf2.a1 (by decide)).a1 (by decide)) h52 (FJ_n hbC hJ (by rw [← eb, ← ec]; exact h_134) (fun j => by
                                rw [ma1_s, ma1_s, fup_n (M2 0) _ (show (152 + x : Int) ≠ 116 + b by omega)]
                                by_cases e1 : j = 152 + x
                                · rw [e1, fup_s]
                                  exact orZ_0 hmx.1
                                · rw [fup_n _ _ e1]
                                  by_cases e2 : j = 116 + b
                                  · rw [e2, fup_s]
                                  · rw [fup_n _ _ e2]))
                        · refine wp_lconst1 (pc := 189) G dX5_finds_189 ?_
                          refine wp_iload_n (pc := 190) G dX5_finds_190 rfl 1 rfl ?_
                          refine wp_bit (pc := 191) G dX5_finds_191 (by omega) ?_
                          refine wp_goto (tgt := 196) (pc := 192) G dX5_finds_192 (by decide) ?_
                          refine wp_lor (pc := 196) G dX5_finds_196 (by show 0 ≤ fup (M2 0) _ _ _; rw [fup_n _ _ (by omega)]; exact hmx.1) (by first | omega | (have h9 := okS_bit hbl; omega)) ?_
                          refine wm_ast_0 (pc := 197) G dX5_finds_197 (by omega) ?_
                          refine wp_iinc (L' := [(3, _), (4, _), (2, _), (1, _), (0, _)]) (pc := 198) G dX5_finds_198 1 rfl (by decide) rfl ?_
                          refine wp_goto (tgt := 114) (pc := 201) G dX5_finds_201 (by decide) ?_
                          refine wp_sub (L' := [(3, _), (2, _), (1, _), (0, _)]) [0, 2, 3, 4] rfl ?_
                          first
                            | (exfalso; omega)
                            | exact ih2 (b + 1) _ (by omega) (by omega) ((hf2.a1 (by decide)).a1 (by decide)) h52 (FJ_y hL hcC hbC hJ (by rw [← eb, ← ec]; exact h_134) (by
                                rw [ma1_s, fup_n _ _ (by omega), ma1_s, fup_s, hx]) (by
                                rw [← hx, ma1_s, fup_s, ma1_s, fup_n _ _ (by omega)]) (fun j h1 h2 => by
                                rw [← hx] at h2
                                rw [ma1_s, fup_n _ _ h2, ma1_s, fup_n _ _ h1]))
                            | exact ih2 (b + 1) _ (by omega) (by omega) ((hf2.a1 (by decide)).a1 (by decide)) h52 (FJ_n hbC hJ (by rw [← eb, ← ec]; exact h_134) (fun j => by
                                rw [ma1_s, ma1_s, fup_n (M2 0) _ (show (152 + x : Int) ≠ 116 + b by omega)]
                                by_cases e1 : j = 152 + x
                                · rw [e1, fup_s]
                                  exact orZ_0 hmx.1
                                · rw [fup_n _ _ e1]
                                  by_cases e2 : j = 116 + b
                                  · rw [e2, fup_s]
                                  · rw [fup_n _ _ e2]))
              exact inner 37 0 M1 (by omega) (by omega) hf rfl (FJ_0 hL hcC hI)
  have loop2 : ∀ (n : Nat) (c : Int) (M1 : Nat → Int → Int), (0 ≤ c ∧ c ≤ mny (M 0)) → (mny (M 0) + 1 ≤ c + n) → (fr [0, 5] M M1) → (∀ j, M1 0 j = if 152 ≤ j ∧ j < 513 then 0 else if 116 ≤ j ∧ j < 116 + c then -1 else M 0 j) → (∀ j, 0 ≤ j ∧ j < c → M1 5 j = endZ (M 0) j) → Wp g F [MB g ad M1] 0 0 26 [(1, iV c), (0, .ref (ad 25))] [] := by
    intro n
    induction n with
    | zero =>
      intro c M1 hc hn hf h0 h5
      exfalso
      omega
    | succ n ih =>
      intro c M1 hc hn hf h0 h5
      have hsm : sameL (M 0) (M1 0) := ⟨by rw [h0, if_neg (by omega), if_neg (by omega)], by rw [h0, if_neg (by omega), if_neg (by omega)], by rw [h0, if_neg (by omega), if_neg (by omega)], fun k hk => by rw [h0, if_neg (by omega), if_neg (by omega)]⟩
      refine wp_iload_n (pc := 26) G dX5_finds_26 rfl 0 rfl ?_
      refine wp_aload_n (pc := 27) G dX5_finds_27 rfl 1 rfl ?_
      refine wm_calli0 (pc := 28) G dX5_finds_28 kX5_61 (ct_many hg) (by decide) (by decide) (Nat.le_of_ble_eq_true rfl) (fun z_28 M_28 h_28 => ?_)
      obtain ⟨rfl, h_28⟩ := h_28
      rw [hsm.m] at h_28
      subst h_28
      refine wp_icmp_ge (tgt := 63) (pc := 31) G dX5_finds_31 (by omega) (by omega) (by decide) (fun h_31 => ?_) (fun h_31 => ?_)
      · refine wp_iconst (pc := 63) G dX5_finds_63 ?_
        refine wp_istore_n (L' := [(1, _), (0, _)]) (pc := 64) G dX5_finds_64 rfl (by decide) rfl ?_
        refine wp_iconst (pc := 65) G dX5_finds_65 ?_
        refine wp_istore_n (L' := [(2, _), (1, _), (0, _)]) (pc := 66) G dX5_finds_66 rfl (by decide) rfl ?_
        refine loop3 37 0 0 M1 (by omega) (by omega) hf (by rw [cnt_0]) (fun j hj => h5 j (by omega)) ?_
        refine ⟨fun j hj _ hjn => by rw [h0, if_neg (by omega), if_neg (by omega)], fun b hb => Or.inr ⟨?_, by rw [h0, if_neg (by omega), if_pos (by omega)]⟩, fun k hk => ?_, fun j hj => by rw [h0, if_pos (by omega)], fun k hk => by rw [h0, if_pos (by omega), cnt_0, if_neg (by omega)], by rw [h0, if_pos (by omega)]; exact okS_0, fun b hb => ?_⟩
        · rintro ⟨x, q1, q2, -⟩
          omega
        · rw [h0, if_pos (by omega)]
          refine ⟨okS_0, fun b hb => ⟨fun h => absurd h (inS_0 b), fun h => ?_⟩⟩
          have h9 := h.2
          rw [h0, if_neg (by omega), if_pos (by omega)] at h9
          omega
        · rw [h0, if_pos (by omega)]
          constructor
          · exact fun h => absurd h (inS_0 b)
          · rintro ⟨x, q1, q2, -⟩
            omega
      · have hcC : isC (M 0) c := ⟨hc.1, h_31⟩
        refine wp_aload_n (pc := 34) G dX5_finds_34 rfl 1 rfl ?_
        refine wm_get_5 (pc := 35) G dX5_finds_35 fX5_19_4 ?_
        refine wp_iload_n (pc := 38) G dX5_finds_38 rfl 0 rfl ?_
        refine wp_aload_n (pc := 39) G dX5_finds_39 rfl 1 rfl ?_
        refine wp_iload_n (pc := 40) G dX5_finds_40 rfl 0 rfl ?_
        refine wm_calll1 (pc := 41) G dX5_finds_41 kX5_106 (ct_endOf hg (hsm.ok hL) ((hsm.c c).mpr hcC)) (by decide) (by decide) (Nat.le_of_ble_eq_true rfl) (fun z_41 M_41 h_41 => ?_)
        obtain ⟨rfl, h_41⟩ := h_41
        rw [hsm.ez hL] at h_41
        subst h_41
        refine wm_ast_5 (pc := 44) G dX5_finds_44 (by omega) ?_
        refine wp_aload_n (pc := 45) G dX5_finds_45 rfl 1 rfl ?_
        refine wm_get_0 (pc := 46) G dX5_finds_46 fX5_7_4 ?_
        refine wp_bipush (pc := 49) G dX5_finds_49 (by decide) ?_
        refine wp_iload_n (pc := 51) G dX5_finds_51 rfl 0 rfl ?_
        refine wp_iadd (pc := 52) G dX5_finds_52 ?_
        refine wp_ldc2 (z := -1) (pc := 53) G dX5_finds_53 q2055 (by decide +kernel) ?_
        refine wm_ast_0 (pc := 56) G dX5_finds_56 (by omega) ?_
        refine wp_iinc (L' := [(1, _), (0, _)]) (pc := 57) G dX5_finds_57 0 rfl (by decide) rfl ?_
        refine wp_goto (tgt := 26) (pc := 60) G dX5_finds_60 (by decide) ?_
        exact ih (c + 1) _ (by omega) (by omega) ((hf.a1 (by decide)).a1 (by decide)) (fun j => by
          show fup (M1 0) (116 + c) (-1) j = _
          by_cases e : j = 116 + c
          · rw [e, fup_s, if_neg (by omega), if_pos (by omega)]
          · rw [fup_n _ _ e, h0]
            by_cases e1 : 152 ≤ j ∧ j < 513
            · rw [if_pos e1, if_pos e1]
            · rw [if_neg e1, if_neg e1]
              by_cases e2 : 116 ≤ j ∧ j < 116 + c
              · rw [if_pos e2, if_pos (by omega)]
              · rw [if_neg e2, if_neg (by omega)]) (fun j hj => by
          show fup (M1 5) c _ j = _
          by_cases e : j = c
          · rw [e, fup_s]
          · rw [fup_n _ _ e]; exact h5 j (by omega))
  have loop1 : ∀ (n : Nat) (k : Int) (M1 : Nat → Int → Int), (152 ≤ k ∧ k ≤ 513) → (514 ≤ k + n) → (fr [0, 5] M M1) → (∀ j, M1 0 j = if 152 ≤ j ∧ j < k then 0 else M 0 j) → Wp g F [MB g ad M1] 0 0 4 [(1, iV k), (0, .ref (ad 25))] [] := by
    intro n
    induction n with
    | zero =>
      intro k M1 hk hn hf h0
      exfalso
      omega
    | succ n ih =>
      intro k M1 hk hn hf h0
      refine wp_iload_n (pc := 4) G dX5_finds_4 rfl 0 rfl ?_
      refine wp_sipush (pc := 5) G dX5_finds_5 (by decide) ?_
      refine wp_icmp_ge (tgt := 24) (pc := 8) G dX5_finds_8 (by omega) (by omega) (by decide) (fun h_8 => ?_) (fun h_8 => ?_)
      · refine wp_iconst (pc := 24) G dX5_finds_24 ?_
        refine wp_istore_n (L' := [(1, _), (0, _)]) (pc := 25) G dX5_finds_25 rfl (by decide) rfl ?_
        refine wp_loc (L' := [(1, _), (0, _)]) rfl ?_
        exact loop2 37 0 M1 (by omega) (by omega) hf (fun j => by
          rw [h0, show k = 513 by omega, if_neg (c := 116 ≤ j ∧ j < 116 + 0) (by omega)]) (fun j hj => by omega)
      · refine wp_aload_n (pc := 11) G dX5_finds_11 rfl 1 rfl ?_
        refine wm_get_0 (pc := 12) G dX5_finds_12 fX5_7_4 ?_
        refine wp_iload_n (pc := 15) G dX5_finds_15 rfl 0 rfl ?_
        refine wp_lconst0 (pc := 16) G dX5_finds_16 ?_
        refine wm_ast_0 (pc := 17) G dX5_finds_17 (by omega) ?_
        refine wp_iinc (L' := [(1, _), (0, _)]) (pc := 18) G dX5_finds_18 0 rfl (by decide) rfl ?_
        refine wp_goto (tgt := 4) (pc := 21) G dX5_finds_21 (by decide) ?_
        exact ih (k + 1) _ (by omega) (by omega) (hf.a1 (by decide)) (fun j => by
          show fup (M1 0) k 0 j = _
          by_cases e : j = k
          · rw [e, fup_s, if_pos (by omega)]
          · rw [fup_n _ _ e, h0]
            by_cases e2 : 152 ≤ j ∧ j < k
            · rw [if_pos e2, if_pos (by omega)]
            · rw [if_neg e2, if_neg (by omega)])
  refine wp_sipush (pc := 0) G dX5_finds_0 (by decide) ?_
  refine wp_istore_n (L' := [(1, _), (0, _)]) (pc := 3) G dX5_finds_3 rfl (by decide) rfl ?_
  exact loop1 514 152 M (by omega) (by omega) fr.rf (fun j => by rw [if_neg (by omega)])
