/-! THE MODEL: basinsOf, countOf, cellValue, lakeValue, levelPart -/
set_option maxRecDepth 100000
noncomputable def bI (p : Prop) : Int := @ite Int p (Classical.propDecidable _) 1 0
theorem isB.I {z : Int} {p : Prop} (h : isB z p) : z = bI p := by
  unfold bI
  rcases h with ⟨h1, h2⟩ | ⟨h1, h2⟩
  · rw [if_pos h2]; exact h1
  · rw [if_neg h2]; exact h1
/-- c is in m, and the first cell of its pit -/
def bsP (az : Int → Int) (m c b : Int) : Prop := inS m c ∧ inS (az 512) c ∧ ∀ x, 0 ≤ x ∧ x < b → ¬ (inS (az 512) x ∧ az (116 + x) = az (116 + c))
noncomputable def bsZ (az : Int → Int) (m : Int) : Int := cntP (fun c => bsP az m c c) (mny az).toNat
def fullF (az : Int → Int) (k : Int) : Int := if az (440 + k) = 1 ∧ az (224 + k) = capZ az (az (152 + k)) then 1 else 0
noncomputable def countZ (az : Int → Int) (w : Int) : Int := if w = 0 then az 0 else if w = 1 then az 1 else if w = 2 then az 6 else if w = 3 then nL az else if w = 4 then wetN az else if w = 5 then seaZ az else sm (fullF az) 72
noncomputable def noZ (az : Int → Int) (k : Int) : Int := if k = -1 then -1 else @Classical.epsilon Int ⟨0⟩ (fun n => (0 ≤ n ∧ n < nL az) ∧ ordK az n = k)
theorem noZ_e {az : Int → Int} (hL : okL az) {n k : Int} (hn : 0 ≤ n ∧ n < nL az) (h : ordK az n = k) : noZ az k = n := by
  have hk := (ordK_k hL hn).1
  unfold noZ
  rw [if_neg (by omega)]
  have h1 := Classical.epsilon_spec (p := fun n => (0 ≤ n ∧ n < nL az) ∧ ordK az n = k) ⟨n, hn, h⟩
  exact ordK_i hL h1.1 hn (h1.2.trans h.symm)
noncomputable def cellZ (az : Int → Int) (c w : Int) : Int := if w = 0 then hgt az c else if w = 1 then bI (inS (az 2) c) else if w = 2 then az (116 + c) else if w = 3 then noZ az (lakeZ az c) else if w = 4 then bI (wetP az c) else bI (inS (az 512) c)
noncomputable def lkV (az : Int → Int) (k w : Int) : Int := if w = 0 then az (224 + k) else if w = 1 then capZ az (az (152 + k)) else if w = 2 then lowZ (az (152 + k)) else if w = 3 then bcZ (az (152 + k)) else if w = 4 then wetZ az (az (152 + k)) else if w = 5 then bsZ az (az (152 + k)) else if w = 6 then (pass az (az (152 + k))).1 else if w = 7 then (pass az (az (152 + k))).2.1 else if w = 8 then (pass az (az (152 + k))).2.2 else leastZ az k
/-- a part of the level of the lake k, in lowest terms -/
noncomputable def lvZ (az : Int → Int) (k p : Int) : Int := @Classical.epsilon Int ⟨0⟩ (fun z => ∃ S B, LV az (az (152 + k)) (az (224 + k)) S B ∧ z = (if p = 0 then S else B) / (Int.gcd S B : Int))
theorem lvZ_e {az : Int → Int} {k p S B : Int} (h : LV az (az (152 + k)) (az (224 + k)) S B) : lvZ az k p = (if p = 0 then S else B) / (Int.gcd S B : Int) := by
  obtain ⟨S', B', h1, h2⟩ := Classical.epsilon_spec (p := fun z => ∃ S B, LV az (az (152 + k)) (az (224 + k)) S B ∧ z = (if p = 0 then S else B) / (Int.gcd S B : Int)) ⟨_, S, B, h, rfl⟩
  obtain ⟨e1, e2⟩ := LV_u h h1
  rw [e1, e2]
  exact h2
set_option maxHeartbeats 4000000 in
theorem ct_basinsOf {g : GV} (hg : GOk g) {ad : Nat → Nat} {M : Nat → Int → Int} (hL : okL (M 0)) (hB : okB (M 0)) (hP : okS (M 0 512)) {m : Int} (hm : okS m) : CMi g ad yX5_basinsOf cX5_basinsOf 7 1 .int [jV m] M (fun z M' => M = M' ∧ z = bsZ (M 0) m) := by
  refine wm_ofi hg (by decide +kernel) (Nat.le_of_ble_eq_true rfl) (fun F G R9 => ?_)
  have G : FxOk g F cX5_basinsOf RX5 7 1 := G
  refine wp_loc (L' := [(0, _), (1, _)]) rfl ?_
  have hmm := hL.m
  have loop : ∀ (n : Nat) (c k : Int), (0 ≤ c ∧ c ≤ mny (M 0)) → (mny (M 0) + 1 ≤ c + n) → (k = cntP (fun c => bsP (M 0) m c c) c.toNat) → Wp g F [MB g ad M] 0 0 5 [(4, iV c), (3, iV k), (0, .ref (ad 25)), (1, jV m)] [] := by
    intro n
    induction n with
    | zero =>
      intro c k hc hn hk
      exfalso
      omega
    | succ n ih =>
      intro c k hc hn hk
      refine wp_iload (pc := 5) G dX5_basinsOf_5 0 rfl ?_
      refine wp_aload_n (pc := 7) G dX5_basinsOf_7 rfl 2 rfl ?_
      refine wm_calli0 (pc := 8) G dX5_basinsOf_8 kX5_61 (ct_many hg) (by decide) (by decide) (Nat.le_of_ble_eq_true rfl) (fun z_8 M_8 h_8 => ?_)
      obtain ⟨rfl, h_8⟩ := h_8
      subst h_8
      refine wp_icmp_ge (tgt := 133) (pc := 11) G dX5_basinsOf_11 (by omega) (by omega) (by decide) (fun h_11 => ?_) (fun h_11 => ?_)
      · refine wp_iload_n (pc := 133) G dX5_basinsOf_133 rfl 1 rfl ?_
        exact wm_iret (pc := 134) G R9 dX5_basinsOf_134 ⟨rfl, by rw [hk, show c = mny (M 0) by omega]; rfl⟩
      · have hcC : isC (M 0) c := ⟨hc.1, h_11⟩
        refine wp_lload_n (pc := 14) G dX5_basinsOf_14 rfl 3 rfl ?_
        refine wp_iload (pc := 15) G dX5_basinsOf_15 0 rfl ?_
        refine ws_calli2 (pc := 17) G dX5_basinsOf_17 kX5_91 (ct_has hg (by omega) (by omega)) (by decide) (by decide) (Nat.le_of_ble_eq_true rfl) (fun z_17 h_17 => ?_)
        refine wp_if_eq (tgt := 43) (pc := 20) G dX5_basinsOf_20 h_17.r (by decide) (fun h_20 => ?_) (fun h_20 => ?_)
        · have h_20 := h_17.f h_20
          refine wp_iconst (pc := 43) G dX5_basinsOf_43 ?_
          refine wp_istore (L' := [(5, _), (4, _), (3, _), (0, _), (1, _)]) (pc := 44) G dX5_basinsOf_44 (by decide) rfl ?_
          refine wp_iconst (pc := 46) G dX5_basinsOf_46 ?_
          refine wp_istore (L' := [(6, _), (5, _), (4, _), (3, _), (0, _), (1, _)]) (pc := 47) G dX5_basinsOf_47 (by decide) rfl ?_
          have inner : ∀ (n : Nat) (b r : Int), (0 ≤ b ∧ b ≤ c) → (c + 1 ≤ b + n) → (isB r (bsP (M 0) m c b)) → Wp g F [MB g ad M] 0 0 49 [(6, iV b), (5, iV r), (4, iV c), (3, iV k), (0, .ref (ad 25)), (1, jV m)] [] := by
            intro n
            induction n with
            | zero =>
              intro b r hb hn2 hr
              exfalso
              omega
            | succ n ih2 =>
              intro b r hb hn2 hr
              refine wp_iload (pc := 49) G dX5_basinsOf_49 0 rfl ?_
              refine wp_iload (pc := 51) G dX5_basinsOf_51 2 rfl ?_
              refine wp_icmp_ge (tgt := 114) (pc := 53) G dX5_basinsOf_53 (by omega) (by omega) (by decide) (fun h_53 => ?_) (fun h_53 => ?_)
              · refine wp_iload_n (pc := 114) G dX5_basinsOf_114 rfl 3 rfl ?_
                refine wp_iload (pc := 115) G dX5_basinsOf_115 1 rfl ?_
                refine wp_if_eq (tgt := 124) (pc := 117) G dX5_basinsOf_117 hr.r (by decide) (fun h_117 => ?_) (fun h_117 => ?_)
                · have h_117 := hr.f h_117
                  refine wp_iconst (pc := 124) G dX5_basinsOf_124 ?_
                  refine wp_iadd (pc := 125) G dX5_basinsOf_125 ?_
                  refine wp_istore_n (L' := [(3, _), (6, _), (5, _), (4, _), (0, _), (1, _)]) (pc := 126) G dX5_basinsOf_126 rfl (by decide) rfl ?_
                  refine wp_iinc (L' := [(4, _), (3, _), (6, _), (5, _), (0, _), (1, _)]) (pc := 127) G dX5_basinsOf_127 3 rfl (by decide) rfl ?_
                  refine wp_goto (tgt := 5) (pc := 130) G dX5_basinsOf_130 (by decide) ?_
                  refine wp_sub (L' := [(4, _), (3, _), (0, _), (1, _)]) [0, 1, 4, 5] rfl ?_
                  first
                    | (have hP9 : bsP (M 0) m c c := by rw [show c = b by omega] at h_117 ⊢; exact h_117
                       exact ih (c + 1) (k + 1) (by omega) (by omega) (by rw [cntP_y (p := fun c => bsP (M 0) m c c) hc.1 hP9, hk]))
                    | (have hP9 : ¬ bsP (M 0) m c c := by rw [show c = b by omega] at h_117 ⊢; exact h_117
                       exact ih (c + 1) (k + 0) (by omega) (by omega) (by rw [cntP_n (p := fun c => bsP (M 0) m c c) hc.1 hP9, hk, Int.add_zero]))
                · have h_117 := hr.t h_117
                  refine wp_iconst (pc := 120) G dX5_basinsOf_120 ?_
                  refine wp_goto (tgt := 125) (pc := 121) G dX5_basinsOf_121 (by decide) ?_
                  refine wp_iadd (pc := 125) G dX5_basinsOf_125 ?_
                  refine wp_istore_n (L' := [(3, _), (6, _), (5, _), (4, _), (0, _), (1, _)]) (pc := 126) G dX5_basinsOf_126 rfl (by decide) rfl ?_
                  refine wp_iinc (L' := [(4, _), (3, _), (6, _), (5, _), (0, _), (1, _)]) (pc := 127) G dX5_basinsOf_127 3 rfl (by decide) rfl ?_
                  refine wp_goto (tgt := 5) (pc := 130) G dX5_basinsOf_130 (by decide) ?_
                  refine wp_sub (L' := [(4, _), (3, _), (0, _), (1, _)]) [0, 1, 4, 5] rfl ?_
                  first
                    | (have hP9 : bsP (M 0) m c c := by rw [show c = b by omega] at h_117 ⊢; exact h_117
                       exact ih (c + 1) (k + 1) (by omega) (by omega) (by rw [cntP_y (p := fun c => bsP (M 0) m c c) hc.1 hP9, hk]))
                    | (have hP9 : ¬ bsP (M 0) m c c := by rw [show c = b by omega] at h_117 ⊢; exact h_117
                       exact ih (c + 1) (k + 0) (by omega) (by omega) (by rw [cntP_n (p := fun c => bsP (M 0) m c c) hc.1 hP9, hk, Int.add_zero]))
              · refine wp_iload (pc := 56) G dX5_basinsOf_56 1 rfl ?_
                refine wp_if_eq (tgt := 105) (pc := 58) G dX5_basinsOf_58 hr.r (by decide) (fun h_58 => ?_) (fun h_58 => ?_)
                · have h_58 := hr.f h_58
                  refine wp_iconst (pc := 105) G dX5_basinsOf_105 ?_
                  refine wp_istore (L' := [(5, _), (6, _), (4, _), (3, _), (0, _), (1, _)]) (pc := 106) G dX5_basinsOf_106 (by decide) rfl ?_
                  refine wp_iinc (L' := [(6, _), (5, _), (4, _), (3, _), (0, _), (1, _)]) (pc := 108) G dX5_basinsOf_108 1 rfl (by decide) rfl ?_
                  refine wp_goto (tgt := 49) (pc := 111) G dX5_basinsOf_111 (by decide) ?_
                  first
                    | exact ih2 (b + 1) 1 (by omega) (by omega) (isB.i1 ⟨h_58.1, h_58.2.1, fun x hx => by
                        by_cases e : x = b
                        · rw [e]; first | exact fun q => h_74 q.1 | exact fun q => h_97 q.2
                        · exact h_58.2.2 x (by omega)⟩)
                    | exact ih2 (b + 1) 0 (by omega) (by omega) (isB.i0 (fun q => by first | exact h_58 ⟨q.1, q.2.1, fun x hx => q.2.2 x (by omega)⟩ | exact q.2.2 b (by omega) ⟨h_74, h_97⟩))
                · have h_58 := hr.t h_58
                  have hB1 := hB b ⟨hb.1, by have := hc.2; omega⟩
                  have hB2 := hB c hcC
                  refine wp_aload_n (pc := 61) G dX5_basinsOf_61 rfl 4 rfl ?_
                  refine wm_get_0 (pc := 62) G dX5_basinsOf_62 fX5_7_4 ?_
                  refine wp_sipush (pc := 65) G dX5_basinsOf_65 (by decide) ?_
                  refine wm_ald_0 (pc := 68) G dX5_basinsOf_68 (by omega) ?_
                  refine wp_iload (pc := 69) G dX5_basinsOf_69 0 rfl ?_
                  refine ws_calli2 (pc := 71) G dX5_basinsOf_71 kX5_91 (ct_has hg (by omega) (by omega)) (by decide) (by decide) (Nat.le_of_ble_eq_true rfl) (fun z_71 h_71 => ?_)
                  refine wp_if_eq (tgt := 101) (pc := 74) G dX5_basinsOf_74 h_71.r (by decide) (fun h_74 => ?_) (fun h_74 => ?_)
                  · have h_74 := h_71.f h_74
                    refine wp_iconst (pc := 101) G dX5_basinsOf_101 ?_
                    refine wp_goto (tgt := 106) (pc := 102) G dX5_basinsOf_102 (by decide) ?_
                    refine wp_istore (L' := [(5, _), (6, _), (4, _), (3, _), (0, _), (1, _)]) (pc := 106) G dX5_basinsOf_106 (by decide) rfl ?_
                    refine wp_iinc (L' := [(6, _), (5, _), (4, _), (3, _), (0, _), (1, _)]) (pc := 108) G dX5_basinsOf_108 1 rfl (by decide) rfl ?_
                    refine wp_goto (tgt := 49) (pc := 111) G dX5_basinsOf_111 (by decide) ?_
                    first
                      | exact ih2 (b + 1) 1 (by omega) (by omega) (isB.i1 ⟨h_58.1, h_58.2.1, fun x hx => by
                          by_cases e : x = b
                          · rw [e]; first | exact fun q => h_74 q.1 | exact fun q => h_97 q.2
                          · exact h_58.2.2 x (by omega)⟩)
                      | exact ih2 (b + 1) 0 (by omega) (by omega) (isB.i0 (fun q => by first | exact h_58 ⟨q.1, q.2.1, fun x hx => q.2.2 x (by omega)⟩ | exact q.2.2 b (by omega) ⟨h_74, h_97⟩))
                  · have h_74 := h_71.t h_74
                    refine wp_aload_n (pc := 77) G dX5_basinsOf_77 rfl 4 rfl ?_
                    refine wm_get_0 (pc := 78) G dX5_basinsOf_78 fX5_7_4 ?_
                    refine wp_bipush (pc := 81) G dX5_basinsOf_81 (by decide) ?_
                    refine wp_iload (pc := 83) G dX5_basinsOf_83 0 rfl ?_
                    refine wp_iadd (pc := 85) G dX5_basinsOf_85 ?_
                    refine wm_ald_0 (pc := 86) G dX5_basinsOf_86 (by omega) ?_
                    refine wp_aload_n (pc := 87) G dX5_basinsOf_87 rfl 4 rfl ?_
                    refine wm_get_0 (pc := 88) G dX5_basinsOf_88 fX5_7_4 ?_
                    refine wp_bipush (pc := 91) G dX5_basinsOf_91 (by decide) ?_
                    refine wp_iload (pc := 93) G dX5_basinsOf_93 2 rfl ?_
                    refine wp_iadd (pc := 95) G dX5_basinsOf_95 ?_
                    refine wm_ald_0 (pc := 96) G dX5_basinsOf_96 (by omega) ?_
                    refine wp_lcmp_eq (tgt := 105) (pc := 97) G dX5_basinsOf_97 dX5_basinsOf_98 (by omega) (by omega) (by decide) (fun h_97 => ?_) (fun h_97 => ?_)
                    · refine wp_iconst (pc := 105) G dX5_basinsOf_105 ?_
                      refine wp_istore (L' := [(5, _), (6, _), (4, _), (3, _), (0, _), (1, _)]) (pc := 106) G dX5_basinsOf_106 (by decide) rfl ?_
                      refine wp_iinc (L' := [(6, _), (5, _), (4, _), (3, _), (0, _), (1, _)]) (pc := 108) G dX5_basinsOf_108 1 rfl (by decide) rfl ?_
                      refine wp_goto (tgt := 49) (pc := 111) G dX5_basinsOf_111 (by decide) ?_
                      first
                        | exact ih2 (b + 1) 1 (by omega) (by omega) (isB.i1 ⟨h_58.1, h_58.2.1, fun x hx => by
                            by_cases e : x = b
                            · rw [e]; first | exact fun q => h_74 q.1 | exact fun q => h_97 q.2
                            · exact h_58.2.2 x (by omega)⟩)
                        | exact ih2 (b + 1) 0 (by omega) (by omega) (isB.i0 (fun q => by first | exact h_58 ⟨q.1, q.2.1, fun x hx => q.2.2 x (by omega)⟩ | exact q.2.2 b (by omega) ⟨h_74, h_97⟩))
                    · refine wp_iconst (pc := 101) G dX5_basinsOf_101 ?_
                      refine wp_goto (tgt := 106) (pc := 102) G dX5_basinsOf_102 (by decide) ?_
                      refine wp_istore (L' := [(5, _), (6, _), (4, _), (3, _), (0, _), (1, _)]) (pc := 106) G dX5_basinsOf_106 (by decide) rfl ?_
                      refine wp_iinc (L' := [(6, _), (5, _), (4, _), (3, _), (0, _), (1, _)]) (pc := 108) G dX5_basinsOf_108 1 rfl (by decide) rfl ?_
                      refine wp_goto (tgt := 49) (pc := 111) G dX5_basinsOf_111 (by decide) ?_
                      first
                        | exact ih2 (b + 1) 1 (by omega) (by omega) (isB.i1 ⟨h_58.1, h_58.2.1, fun x hx => by
                            by_cases e : x = b
                            · rw [e]; first | exact fun q => h_74 q.1 | exact fun q => h_97 q.2
                            · exact h_58.2.2 x (by omega)⟩)
                        | exact ih2 (b + 1) 0 (by omega) (by omega) (isB.i0 (fun q => by first | exact h_58 ⟨q.1, q.2.1, fun x hx => q.2.2 x (by omega)⟩ | exact q.2.2 b (by omega) ⟨h_74, h_97⟩))
          first
            | exact inner (c + 1).toNat 0 1 (by omega) (by omega) (isB.i1 ⟨h_20, h_36, fun x hx => by omega⟩)
            | exact inner (c + 1).toNat 0 0 (by omega) (by omega) (isB.i0 (fun q => by first | exact h_20 q.1 | exact h_36 q.2.1))
        · have h_20 := h_17.t h_20
          refine wp_aload_n (pc := 23) G dX5_basinsOf_23 rfl 2 rfl ?_
          refine wm_get_0 (pc := 24) G dX5_basinsOf_24 fX5_7_4 ?_
          refine wp_sipush (pc := 27) G dX5_basinsOf_27 (by decide) ?_
          refine wm_ald_0 (pc := 30) G dX5_basinsOf_30 (by omega) ?_
          refine wp_iload (pc := 31) G dX5_basinsOf_31 0 rfl ?_
          refine ws_calli2 (pc := 33) G dX5_basinsOf_33 kX5_91 (ct_has hg (by omega) (by omega)) (by decide) (by decide) (Nat.le_of_ble_eq_true rfl) (fun z_33 h_33 => ?_)
          refine wp_if_eq (tgt := 43) (pc := 36) G dX5_basinsOf_36 h_33.r (by decide) (fun h_36 => ?_) (fun h_36 => ?_)
          · have h_36 := h_33.f h_36
            refine wp_iconst (pc := 43) G dX5_basinsOf_43 ?_
            refine wp_istore (L' := [(5, _), (4, _), (3, _), (0, _), (1, _)]) (pc := 44) G dX5_basinsOf_44 (by decide) rfl ?_
            refine wp_iconst (pc := 46) G dX5_basinsOf_46 ?_
            refine wp_istore (L' := [(6, _), (5, _), (4, _), (3, _), (0, _), (1, _)]) (pc := 47) G dX5_basinsOf_47 (by decide) rfl ?_
            have inner : ∀ (n : Nat) (b r : Int), (0 ≤ b ∧ b ≤ c) → (c + 1 ≤ b + n) → (isB r (bsP (M 0) m c b)) → Wp g F [MB g ad M] 0 0 49 [(6, iV b), (5, iV r), (4, iV c), (3, iV k), (0, .ref (ad 25)), (1, jV m)] [] := by
              intro n
              induction n with
              | zero =>
                intro b r hb hn2 hr
                exfalso
                omega
              | succ n ih2 =>
                intro b r hb hn2 hr
                refine wp_iload (pc := 49) G dX5_basinsOf_49 0 rfl ?_
                refine wp_iload (pc := 51) G dX5_basinsOf_51 2 rfl ?_
                refine wp_icmp_ge (tgt := 114) (pc := 53) G dX5_basinsOf_53 (by omega) (by omega) (by decide) (fun h_53 => ?_) (fun h_53 => ?_)
                · refine wp_iload_n (pc := 114) G dX5_basinsOf_114 rfl 3 rfl ?_
                  refine wp_iload (pc := 115) G dX5_basinsOf_115 1 rfl ?_
                  refine wp_if_eq (tgt := 124) (pc := 117) G dX5_basinsOf_117 hr.r (by decide) (fun h_117 => ?_) (fun h_117 => ?_)
                  · have h_117 := hr.f h_117
                    refine wp_iconst (pc := 124) G dX5_basinsOf_124 ?_
                    refine wp_iadd (pc := 125) G dX5_basinsOf_125 ?_
                    refine wp_istore_n (L' := [(3, _), (6, _), (5, _), (4, _), (0, _), (1, _)]) (pc := 126) G dX5_basinsOf_126 rfl (by decide) rfl ?_
                    refine wp_iinc (L' := [(4, _), (3, _), (6, _), (5, _), (0, _), (1, _)]) (pc := 127) G dX5_basinsOf_127 3 rfl (by decide) rfl ?_
                    refine wp_goto (tgt := 5) (pc := 130) G dX5_basinsOf_130 (by decide) ?_
                    refine wp_sub (L' := [(4, _), (3, _), (0, _), (1, _)]) [0, 1, 4, 5] rfl ?_
                    first
                      | (have hP9 : bsP (M 0) m c c := by rw [show c = b by omega] at h_117 ⊢; exact h_117
                         exact ih (c + 1) (k + 1) (by omega) (by omega) (by rw [cntP_y (p := fun c => bsP (M 0) m c c) hc.1 hP9, hk]))
                      | (have hP9 : ¬ bsP (M 0) m c c := by rw [show c = b by omega] at h_117 ⊢; exact h_117
                         exact ih (c + 1) (k + 0) (by omega) (by omega) (by rw [cntP_n (p := fun c => bsP (M 0) m c c) hc.1 hP9, hk, Int.add_zero]))
                  · have h_117 := hr.t h_117
                    refine wp_iconst (pc := 120) G dX5_basinsOf_120 ?_
                    refine wp_goto (tgt := 125) (pc := 121) G dX5_basinsOf_121 (by decide) ?_
                    refine wp_iadd (pc := 125) G dX5_basinsOf_125 ?_
                    refine wp_istore_n (L' := [(3, _), (6, _), (5, _), (4, _), (0, _), (1, _)]) (pc := 126) G dX5_basinsOf_126 rfl (by decide) rfl ?_
                    refine wp_iinc (L' := [(4, _), (3, _), (6, _), (5, _), (0, _), (1, _)]) (pc := 127) G dX5_basinsOf_127 3 rfl (by decide) rfl ?_
                    refine wp_goto (tgt := 5) (pc := 130) G dX5_basinsOf_130 (by decide) ?_
                    refine wp_sub (L' := [(4, _), (3, _), (0, _), (1, _)]) [0, 1, 4, 5] rfl ?_
                    first
                      | (have hP9 : bsP (M 0) m c c := by rw [show c = b by omega] at h_117 ⊢; exact h_117
                         exact ih (c + 1) (k + 1) (by omega) (by omega) (by rw [cntP_y (p := fun c => bsP (M 0) m c c) hc.1 hP9, hk]))
                      | (have hP9 : ¬ bsP (M 0) m c c := by rw [show c = b by omega] at h_117 ⊢; exact h_117
                         exact ih (c + 1) (k + 0) (by omega) (by omega) (by rw [cntP_n (p := fun c => bsP (M 0) m c c) hc.1 hP9, hk, Int.add_zero]))
                · refine wp_iload (pc := 56) G dX5_basinsOf_56 1 rfl ?_
                  refine wp_if_eq (tgt := 105) (pc := 58) G dX5_basinsOf_58 hr.r (by decide) (fun h_58 => ?_) (fun h_58 => ?_)
                  · have h_58 := hr.f h_58
                    refine wp_iconst (pc := 105) G dX5_basinsOf_105 ?_
                    refine wp_istore (L' := [(5, _), (6, _), (4, _), (3, _), (0, _), (1, _)]) (pc := 106) G dX5_basinsOf_106 (by decide) rfl ?_
                    refine wp_iinc (L' := [(6, _), (5, _), (4, _), (3, _), (0, _), (1, _)]) (pc := 108) G dX5_basinsOf_108 1 rfl (by decide) rfl ?_
                    refine wp_goto (tgt := 49) (pc := 111) G dX5_basinsOf_111 (by decide) ?_
                    first
                      | exact ih2 (b + 1) 1 (by omega) (by omega) (isB.i1 ⟨h_58.1, h_58.2.1, fun x hx => by
                          by_cases e : x = b
                          · rw [e]; first | exact fun q => h_74 q.1 | exact fun q => h_97 q.2
                          · exact h_58.2.2 x (by omega)⟩)
                      | exact ih2 (b + 1) 0 (by omega) (by omega) (isB.i0 (fun q => by first | exact h_58 ⟨q.1, q.2.1, fun x hx => q.2.2 x (by omega)⟩ | exact q.2.2 b (by omega) ⟨h_74, h_97⟩))
                  · have h_58 := hr.t h_58
                    have hB1 := hB b ⟨hb.1, by have := hc.2; omega⟩
                    have hB2 := hB c hcC
                    refine wp_aload_n (pc := 61) G dX5_basinsOf_61 rfl 4 rfl ?_
                    refine wm_get_0 (pc := 62) G dX5_basinsOf_62 fX5_7_4 ?_
                    refine wp_sipush (pc := 65) G dX5_basinsOf_65 (by decide) ?_
                    refine wm_ald_0 (pc := 68) G dX5_basinsOf_68 (by omega) ?_
                    refine wp_iload (pc := 69) G dX5_basinsOf_69 0 rfl ?_
                    refine ws_calli2 (pc := 71) G dX5_basinsOf_71 kX5_91 (ct_has hg (by omega) (by omega)) (by decide) (by decide) (Nat.le_of_ble_eq_true rfl) (fun z_71 h_71 => ?_)
                    refine wp_if_eq (tgt := 101) (pc := 74) G dX5_basinsOf_74 h_71.r (by decide) (fun h_74 => ?_) (fun h_74 => ?_)
                    · have h_74 := h_71.f h_74
                      refine wp_iconst (pc := 101) G dX5_basinsOf_101 ?_
                      refine wp_goto (tgt := 106) (pc := 102) G dX5_basinsOf_102 (by decide) ?_
                      refine wp_istore (L' := [(5, _), (6, _), (4, _), (3, _), (0, _), (1, _)]) (pc := 106) G dX5_basinsOf_106 (by decide) rfl ?_
                      refine wp_iinc (L' := [(6, _), (5, _), (4, _), (3, _), (0, _), (1, _)]) (pc := 108) G dX5_basinsOf_108 1 rfl (by decide) rfl ?_
                      refine wp_goto (tgt := 49) (pc := 111) G dX5_basinsOf_111 (by decide) ?_
                      first
                        | exact ih2 (b + 1) 1 (by omega) (by omega) (isB.i1 ⟨h_58.1, h_58.2.1, fun x hx => by
                            by_cases e : x = b
                            · rw [e]; first | exact fun q => h_74 q.1 | exact fun q => h_97 q.2
                            · exact h_58.2.2 x (by omega)⟩)
                        | exact ih2 (b + 1) 0 (by omega) (by omega) (isB.i0 (fun q => by first | exact h_58 ⟨q.1, q.2.1, fun x hx => q.2.2 x (by omega)⟩ | exact q.2.2 b (by omega) ⟨h_74, h_97⟩))
                    · have h_74 := h_71.t h_74
                      refine wp_aload_n (pc := 77) G dX5_basinsOf_77 rfl 4 rfl ?_
                      refine wm_get_0 (pc := 78) G dX5_basinsOf_78 fX5_7_4 ?_
                      refine wp_bipush (pc := 81) G dX5_basinsOf_81 (by decide) ?_
                      refine wp_iload (pc := 83) G dX5_basinsOf_83 0 rfl ?_
                      refine wp_iadd (pc := 85) G dX5_basinsOf_85 ?_
                      refine wm_ald_0 (pc := 86) G dX5_basinsOf_86 (by omega) ?_
                      refine wp_aload_n (pc := 87) G dX5_basinsOf_87 rfl 4 rfl ?_
                      refine wm_get_0 (pc := 88) G dX5_basinsOf_88 fX5_7_4 ?_
                      refine wp_bipush (pc := 91) G dX5_basinsOf_91 (by decide) ?_
                      refine wp_iload (pc := 93) G dX5_basinsOf_93 2 rfl ?_
                      refine wp_iadd (pc := 95) G dX5_basinsOf_95 ?_
                      refine wm_ald_0 (pc := 96) G dX5_basinsOf_96 (by omega) ?_
                      refine wp_lcmp_eq (tgt := 105) (pc := 97) G dX5_basinsOf_97 dX5_basinsOf_98 (by omega) (by omega) (by decide) (fun h_97 => ?_) (fun h_97 => ?_)
                      · refine wp_iconst (pc := 105) G dX5_basinsOf_105 ?_
                        refine wp_istore (L' := [(5, _), (6, _), (4, _), (3, _), (0, _), (1, _)]) (pc := 106) G dX5_basinsOf_106 (by decide) rfl ?_
                        refine wp_iinc (L' := [(6, _), (5, _), (4, _), (3, _), (0, _), (1, _)]) (pc := 108) G dX5_basinsOf_108 1 rfl (by decide) rfl ?_
                        refine wp_goto (tgt := 49) (pc := 111) G dX5_basinsOf_111 (by decide) ?_
                        first
                          | exact ih2 (b + 1) 1 (by omega) (by omega) (isB.i1 ⟨h_58.1, h_58.2.1, fun x hx => by
                              by_cases e : x = b
                              · rw [e]; first | exact fun q => h_74 q.1 | exact fun q => h_97 q.2
                              · exact h_58.2.2 x (by omega)⟩)
                          | exact ih2 (b + 1) 0 (by omega) (by omega) (isB.i0 (fun q => by first | exact h_58 ⟨q.1, q.2.1, fun x hx => q.2.2 x (by omega)⟩ | exact q.2.2 b (by omega) ⟨h_74, h_97⟩))
                      · refine wp_iconst (pc := 101) G dX5_basinsOf_101 ?_
                        refine wp_goto (tgt := 106) (pc := 102) G dX5_basinsOf_102 (by decide) ?_
                        refine wp_istore (L' := [(5, _), (6, _), (4, _), (3, _), (0, _), (1, _)]) (pc := 106) G dX5_basinsOf_106 (by decide) rfl ?_
                        refine wp_iinc (L' := [(6, _), (5, _), (4, _), (3, _), (0, _), (1, _)]) (pc := 108) G dX5_basinsOf_108 1 rfl (by decide) rfl ?_
                        refine wp_goto (tgt := 49) (pc := 111) G dX5_basinsOf_111 (by decide) ?_
                        first
                          | exact ih2 (b + 1) 1 (by omega) (by omega) (isB.i1 ⟨h_58.1, h_58.2.1, fun x hx => by
                              by_cases e : x = b
                              · rw [e]; first | exact fun q => h_74 q.1 | exact fun q => h_97 q.2
                              · exact h_58.2.2 x (by omega)⟩)
                          | exact ih2 (b + 1) 0 (by omega) (by omega) (isB.i0 (fun q => by first | exact h_58 ⟨q.1, q.2.1, fun x hx => q.2.2 x (by omega)⟩ | exact q.2.2 b (by omega) ⟨h_74, h_97⟩))
            first
              | exact inner (c + 1).toNat 0 1 (by omega) (by omega) (isB.i1 ⟨h_20, h_36, fun x hx => by omega⟩)
              | exact inner (c + 1).toNat 0 0 (by omega) (by omega) (isB.i0 (fun q => by first | exact h_20 q.1 | exact h_36 q.2.1))
          · have h_36 := h_33.t h_36
            refine wp_iconst (pc := 39) G dX5_basinsOf_39 ?_
            refine wp_goto (tgt := 44) (pc := 40) G dX5_basinsOf_40 (by decide) ?_
            refine wp_istore (L' := [(5, _), (4, _), (3, _), (0, _), (1, _)]) (pc := 44) G dX5_basinsOf_44 (by decide) rfl ?_
            refine wp_iconst (pc := 46) G dX5_basinsOf_46 ?_
            refine wp_istore (L' := [(6, _), (5, _), (4, _), (3, _), (0, _), (1, _)]) (pc := 47) G dX5_basinsOf_47 (by decide) rfl ?_
            have inner : ∀ (n : Nat) (b r : Int), (0 ≤ b ∧ b ≤ c) → (c + 1 ≤ b + n) → (isB r (bsP (M 0) m c b)) → Wp g F [MB g ad M] 0 0 49 [(6, iV b), (5, iV r), (4, iV c), (3, iV k), (0, .ref (ad 25)), (1, jV m)] [] := by
              intro n
              induction n with
              | zero =>
                intro b r hb hn2 hr
                exfalso
                omega
              | succ n ih2 =>
                intro b r hb hn2 hr
                refine wp_iload (pc := 49) G dX5_basinsOf_49 0 rfl ?_
                refine wp_iload (pc := 51) G dX5_basinsOf_51 2 rfl ?_
                refine wp_icmp_ge (tgt := 114) (pc := 53) G dX5_basinsOf_53 (by omega) (by omega) (by decide) (fun h_53 => ?_) (fun h_53 => ?_)
                · refine wp_iload_n (pc := 114) G dX5_basinsOf_114 rfl 3 rfl ?_
                  refine wp_iload (pc := 115) G dX5_basinsOf_115 1 rfl ?_
                  refine wp_if_eq (tgt := 124) (pc := 117) G dX5_basinsOf_117 hr.r (by decide) (fun h_117 => ?_) (fun h_117 => ?_)
                  · have h_117 := hr.f h_117
                    refine wp_iconst (pc := 124) G dX5_basinsOf_124 ?_
                    refine wp_iadd (pc := 125) G dX5_basinsOf_125 ?_
                    refine wp_istore_n (L' := [(3, _), (6, _), (5, _), (4, _), (0, _), (1, _)]) (pc := 126) G dX5_basinsOf_126 rfl (by decide) rfl ?_
                    refine wp_iinc (L' := [(4, _), (3, _), (6, _), (5, _), (0, _), (1, _)]) (pc := 127) G dX5_basinsOf_127 3 rfl (by decide) rfl ?_
                    refine wp_goto (tgt := 5) (pc := 130) G dX5_basinsOf_130 (by decide) ?_
                    refine wp_sub (L' := [(4, _), (3, _), (0, _), (1, _)]) [0, 1, 4, 5] rfl ?_
                    first
                      | (have hP9 : bsP (M 0) m c c := by rw [show c = b by omega] at h_117 ⊢; exact h_117
                         exact ih (c + 1) (k + 1) (by omega) (by omega) (by rw [cntP_y (p := fun c => bsP (M 0) m c c) hc.1 hP9, hk]))
                      | (have hP9 : ¬ bsP (M 0) m c c := by rw [show c = b by omega] at h_117 ⊢; exact h_117
                         exact ih (c + 1) (k + 0) (by omega) (by omega) (by rw [cntP_n (p := fun c => bsP (M 0) m c c) hc.1 hP9, hk, Int.add_zero]))
                  · have h_117 := hr.t h_117
                    refine wp_iconst (pc := 120) G dX5_basinsOf_120 ?_
                    refine wp_goto (tgt := 125) (pc := 121) G dX5_basinsOf_121 (by decide) ?_
                    refine wp_iadd (pc := 125) G dX5_basinsOf_125 ?_
                    refine wp_istore_n (L' := [(3, _), (6, _), (5, _), (4, _), (0, _), (1, _)]) (pc := 126) G dX5_basinsOf_126 rfl (by decide) rfl ?_
                    refine wp_iinc (L' := [(4, _), (3, _), (6, _), (5, _), (0, _), (1, _)]) (pc := 127) G dX5_basinsOf_127 3 rfl (by decide) rfl ?_
                    refine wp_goto (tgt := 5) (pc := 130) G dX5_basinsOf_130 (by decide) ?_
                    refine wp_sub (L' := [(4, _), (3, _), (0, _), (1, _)]) [0, 1, 4, 5] rfl ?_
                    first
                      | (have hP9 : bsP (M 0) m c c := by rw [show c = b by omega] at h_117 ⊢; exact h_117
                         exact ih (c + 1) (k + 1) (by omega) (by omega) (by rw [cntP_y (p := fun c => bsP (M 0) m c c) hc.1 hP9, hk]))
                      | (have hP9 : ¬ bsP (M 0) m c c := by rw [show c = b by omega] at h_117 ⊢; exact h_117
                         exact ih (c + 1) (k + 0) (by omega) (by omega) (by rw [cntP_n (p := fun c => bsP (M 0) m c c) hc.1 hP9, hk, Int.add_zero]))
                · refine wp_iload (pc := 56) G dX5_basinsOf_56 1 rfl ?_
                  refine wp_if_eq (tgt := 105) (pc := 58) G dX5_basinsOf_58 hr.r (by decide) (fun h_58 => ?_) (fun h_58 => ?_)
                  · have h_58 := hr.f h_58
                    refine wp_iconst (pc := 105) G dX5_basinsOf_105 ?_
                    refine wp_istore (L' := [(5, _), (6, _), (4, _), (3, _), (0, _), (1, _)]) (pc := 106) G dX5_basinsOf_106 (by decide) rfl ?_
                    refine wp_iinc (L' := [(6, _), (5, _), (4, _), (3, _), (0, _), (1, _)]) (pc := 108) G dX5_basinsOf_108 1 rfl (by decide) rfl ?_
                    refine wp_goto (tgt := 49) (pc := 111) G dX5_basinsOf_111 (by decide) ?_
                    first
                      | exact ih2 (b + 1) 1 (by omega) (by omega) (isB.i1 ⟨h_58.1, h_58.2.1, fun x hx => by
                          by_cases e : x = b
                          · rw [e]; first | exact fun q => h_74 q.1 | exact fun q => h_97 q.2
                          · exact h_58.2.2 x (by omega)⟩)
                      | exact ih2 (b + 1) 0 (by omega) (by omega) (isB.i0 (fun q => by first | exact h_58 ⟨q.1, q.2.1, fun x hx => q.2.2 x (by omega)⟩ | exact q.2.2 b (by omega) ⟨h_74, h_97⟩))
                  · have h_58 := hr.t h_58
                    have hB1 := hB b ⟨hb.1, by have := hc.2; omega⟩
                    have hB2 := hB c hcC
                    refine wp_aload_n (pc := 61) G dX5_basinsOf_61 rfl 4 rfl ?_
                    refine wm_get_0 (pc := 62) G dX5_basinsOf_62 fX5_7_4 ?_
                    refine wp_sipush (pc := 65) G dX5_basinsOf_65 (by decide) ?_
                    refine wm_ald_0 (pc := 68) G dX5_basinsOf_68 (by omega) ?_
                    refine wp_iload (pc := 69) G dX5_basinsOf_69 0 rfl ?_
                    refine ws_calli2 (pc := 71) G dX5_basinsOf_71 kX5_91 (ct_has hg (by omega) (by omega)) (by decide) (by decide) (Nat.le_of_ble_eq_true rfl) (fun z_71 h_71 => ?_)
                    refine wp_if_eq (tgt := 101) (pc := 74) G dX5_basinsOf_74 h_71.r (by decide) (fun h_74 => ?_) (fun h_74 => ?_)
                    · have h_74 := h_71.f h_74
                      refine wp_iconst (pc := 101) G dX5_basinsOf_101 ?_
                      refine wp_goto (tgt := 106) (pc := 102) G dX5_basinsOf_102 (by decide) ?_
                      refine wp_istore (L' := [(5, _), (6, _), (4, _), (3, _), (0, _), (1, _)]) (pc := 106) G dX5_basinsOf_106 (by decide) rfl ?_
                      refine wp_iinc (L' := [(6, _), (5, _), (4, _), (3, _), (0, _), (1, _)]) (pc := 108) G dX5_basinsOf_108 1 rfl (by decide) rfl ?_
                      refine wp_goto (tgt := 49) (pc := 111) G dX5_basinsOf_111 (by decide) ?_
                      first
                        | exact ih2 (b + 1) 1 (by omega) (by omega) (isB.i1 ⟨h_58.1, h_58.2.1, fun x hx => by
                            by_cases e : x = b
                            · rw [e]; first | exact fun q => h_74 q.1 | exact fun q => h_97 q.2
                            · exact h_58.2.2 x (by omega)⟩)
                        | exact ih2 (b + 1) 0 (by omega) (by omega) (isB.i0 (fun q => by first | exact h_58 ⟨q.1, q.2.1, fun x hx => q.2.2 x (by omega)⟩ | exact q.2.2 b (by omega) ⟨h_74, h_97⟩))
                    · have h_74 := h_71.t h_74
                      refine wp_aload_n (pc := 77) G dX5_basinsOf_77 rfl 4 rfl ?_
                      refine wm_get_0 (pc := 78) G dX5_basinsOf_78 fX5_7_4 ?_
                      refine wp_bipush (pc := 81) G dX5_basinsOf_81 (by decide) ?_
                      refine wp_iload (pc := 83) G dX5_basinsOf_83 0 rfl ?_
                      refine wp_iadd (pc := 85) G dX5_basinsOf_85 ?_
                      refine wm_ald_0 (pc := 86) G dX5_basinsOf_86 (by omega) ?_
                      refine wp_aload_n (pc := 87) G dX5_basinsOf_87 rfl 4 rfl ?_
                      refine wm_get_0 (pc := 88) G dX5_basinsOf_88 fX5_7_4 ?_
                      refine wp_bipush (pc := 91) G dX5_basinsOf_91 (by decide) ?_
                      refine wp_iload (pc := 93) G dX5_basinsOf_93 2 rfl ?_
                      refine wp_iadd (pc := 95) G dX5_basinsOf_95 ?_
                      refine wm_ald_0 (pc := 96) G dX5_basinsOf_96 (by omega) ?_
                      refine wp_lcmp_eq (tgt := 105) (pc := 97) G dX5_basinsOf_97 dX5_basinsOf_98 (by omega) (by omega) (by decide) (fun h_97 => ?_) (fun h_97 => ?_)
                      · refine wp_iconst (pc := 105) G dX5_basinsOf_105 ?_
                        refine wp_istore (L' := [(5, _), (6, _), (4, _), (3, _), (0, _), (1, _)]) (pc := 106) G dX5_basinsOf_106 (by decide) rfl ?_
                        refine wp_iinc (L' := [(6, _), (5, _), (4, _), (3, _), (0, _), (1, _)]) (pc := 108) G dX5_basinsOf_108 1 rfl (by decide) rfl ?_
                        refine wp_goto (tgt := 49) (pc := 111) G dX5_basinsOf_111 (by decide) ?_
                        first
                          | exact ih2 (b + 1) 1 (by omega) (by omega) (isB.i1 ⟨h_58.1, h_58.2.1, fun x hx => by
                              by_cases e : x = b
                              · rw [e]; first | exact fun q => h_74 q.1 | exact fun q => h_97 q.2
                              · exact h_58.2.2 x (by omega)⟩)
                          | exact ih2 (b + 1) 0 (by omega) (by omega) (isB.i0 (fun q => by first | exact h_58 ⟨q.1, q.2.1, fun x hx => q.2.2 x (by omega)⟩ | exact q.2.2 b (by omega) ⟨h_74, h_97⟩))
                      · refine wp_iconst (pc := 101) G dX5_basinsOf_101 ?_
                        refine wp_goto (tgt := 106) (pc := 102) G dX5_basinsOf_102 (by decide) ?_
                        refine wp_istore (L' := [(5, _), (6, _), (4, _), (3, _), (0, _), (1, _)]) (pc := 106) G dX5_basinsOf_106 (by decide) rfl ?_
                        refine wp_iinc (L' := [(6, _), (5, _), (4, _), (3, _), (0, _), (1, _)]) (pc := 108) G dX5_basinsOf_108 1 rfl (by decide) rfl ?_
                        refine wp_goto (tgt := 49) (pc := 111) G dX5_basinsOf_111 (by decide) ?_
                        first
                          | exact ih2 (b + 1) 1 (by omega) (by omega) (isB.i1 ⟨h_58.1, h_58.2.1, fun x hx => by
                              by_cases e : x = b
                              · rw [e]; first | exact fun q => h_74 q.1 | exact fun q => h_97 q.2
                              · exact h_58.2.2 x (by omega)⟩)
                          | exact ih2 (b + 1) 0 (by omega) (by omega) (isB.i0 (fun q => by first | exact h_58 ⟨q.1, q.2.1, fun x hx => q.2.2 x (by omega)⟩ | exact q.2.2 b (by omega) ⟨h_74, h_97⟩))
            first
              | exact inner (c + 1).toNat 0 1 (by omega) (by omega) (isB.i1 ⟨h_20, h_36, fun x hx => by omega⟩)
              | exact inner (c + 1).toNat 0 0 (by omega) (by omega) (isB.i0 (fun q => by first | exact h_20 q.1 | exact h_36 q.2.1))
  refine wp_iconst (pc := 0) G dX5_basinsOf_0 ?_
  refine wp_istore_n (L' := [(3, _), (0, _), (1, _)]) (pc := 1) G dX5_basinsOf_1 rfl (by decide) rfl ?_
  refine wp_iconst (pc := 2) G dX5_basinsOf_2 ?_
  refine wp_istore (L' := [(4, _), (3, _), (0, _), (1, _)]) (pc := 3) G dX5_basinsOf_3 (by decide) rfl ?_
  exact loop 38 0 0 (by omega) (by omega) rfl
set_option maxHeartbeats 4000000 in
theorem ct_countOf {g : GV} (hg : GOk g) {ad : Nat → Nat} {M : Nat → Int → Int} (hL : okL (M 0)) (hK : okK (M 0)) (hB : okB (M 0)) {w : Int} (hw : 0 ≤ w ∧ w ≤ 6) : CMi g ad yX5_countOf cX5_countOf 4 7 .int [iV w] M (fun z M' => fr [6, 7, 8, 11, 12, 13, 14] M M' ∧ z = countZ (M 0) w) := by
  refine wm_ofi hg (by decide +kernel) (Nat.le_of_ble_eq_true rfl) (fun F G R9 => ?_)
  have G : FxOk g F cX5_countOf RX5 4 7 := G
  refine wp_loc (L' := [(0, _), (1, _)]) rfl ?_
  refine wp_iload_n (pc := 0) G dX5_countOf_0 rfl 1 rfl ?_
  rcases (show w = 0 ∨ w = 1 ∨ w = 2 ∨ w = 3 ∨ w = 4 ∨ w = 5 ∨ 5 < w by omega) with rfl | rfl | rfl | rfl | rfl | rfl | hdf
  · refine wp_tsIn (pc := 1) (off := 39) (tgt := 40) G dX5_countOf_1 (by omega) (by omega) rfl (by decide) ?_
    refine wp_aload_n (pc := 40) G dX5_countOf_40 rfl 0 rfl ?_
    refine wm_get_0 (pc := 41) G dX5_countOf_41 fX5_7_4 ?_
    refine wp_iconst (pc := 44) G dX5_countOf_44 ?_
    refine wm_ald_0 (pc := 45) G dX5_countOf_45 (by omega) ?_
    refine wp_l2i (pc := 46) G dX5_countOf_46 ?_
    exact wm_iret (pc := 47) G R9 dX5_countOf_47 ⟨fr.rf, rfl⟩
  · refine wp_tsIn (pc := 1) (off := 47) (tgt := 48) G dX5_countOf_1 (by omega) (by omega) rfl (by decide) ?_
    refine wp_aload_n (pc := 48) G dX5_countOf_48 rfl 0 rfl ?_
    refine wm_get_0 (pc := 49) G dX5_countOf_49 fX5_7_4 ?_
    refine wp_iconst (pc := 52) G dX5_countOf_52 ?_
    refine wm_ald_0 (pc := 53) G dX5_countOf_53 (by omega) ?_
    refine wp_l2i (pc := 54) G dX5_countOf_54 ?_
    exact wm_iret (pc := 55) G R9 dX5_countOf_55 ⟨fr.rf, rfl⟩
  · refine wp_tsIn (pc := 1) (off := 55) (tgt := 56) G dX5_countOf_1 (by omega) (by omega) rfl (by decide) ?_
    refine wp_aload_n (pc := 56) G dX5_countOf_56 rfl 0 rfl ?_
    refine wm_get_0 (pc := 57) G dX5_countOf_57 fX5_7_4 ?_
    refine wp_bipush (pc := 60) G dX5_countOf_60 (by decide) ?_
    refine wm_ald_0 (pc := 62) G dX5_countOf_62 (by omega) ?_
    refine wp_l2i (pc := 63) G dX5_countOf_63 ?_
    exact wm_iret (pc := 64) G R9 dX5_countOf_64 ⟨fr.rf, rfl⟩
  · refine wp_tsIn (pc := 1) (off := 64) (tgt := 65) G dX5_countOf_1 (by omega) (by omega) rfl (by decide) ?_
    refine wp_aload_n (pc := 65) G dX5_countOf_65 rfl 0 rfl ?_
    refine wm_callv0 (pc := 66) G dX5_countOf_66 kX5_152 (ct_orders hg hL hK) (by decide) (by decide) (Nat.le_of_ble_eq_true rfl) (fun M_66 h_66 => ?_)
    refine wp_aload_n (pc := 69) G dX5_countOf_69 rfl 0 rfl ?_
    refine wm_get_12 (pc := 70) G dX5_countOf_70 fX5_149_4 ?_
    exact wm_iret (pc := 73) G R9 dX5_countOf_73 ⟨h_66.1.up (by decide), h_66.2.1⟩
  · refine wp_tsIn (pc := 1) (off := 73) (tgt := 74) G dX5_countOf_1 (by omega) (by omega) rfl (by decide) ?_
    refine wp_aload_n (pc := 74) G dX5_countOf_74 rfl 0 rfl ?_
    refine wm_calli0 (pc := 75) G dX5_countOf_75 kX5_219 (ct_wet hg hL hK) (by decide) (by decide) (Nat.le_of_ble_eq_true rfl) (fun z_75 M_75 h_75 => ?_)
    exact wm_iret (pc := 78) G R9 dX5_countOf_78 ⟨h_75.1.up (by decide), h_75.2⟩
  · refine wp_tsIn (pc := 1) (off := 78) (tgt := 79) G dX5_countOf_1 (by omega) (by omega) rfl (by decide) ?_
    refine wp_aload_n (pc := 79) G dX5_countOf_79 rfl 0 rfl ?_
    refine wm_calli0 (pc := 80) G dX5_countOf_80 kX5_222 (ct_seaCells hg hL hB) (by decide) (by decide) (Nat.le_of_ble_eq_true rfl) (fun z_80 M_80 h_80 => ?_)
    obtain ⟨rfl, h_80⟩ := h_80
    subst h_80
    exact wm_iret (pc := 83) G R9 dX5_countOf_83 ⟨fr.rf, rfl⟩
  · refine wp_tsOut (pc := 1) (tgt := 84) G dX5_countOf_1 (by omega) (by omega) (by decide) ?_
    refine wp_iconst (pc := 84) G dX5_countOf_84 ?_
    refine wp_istore_n (L' := [(2, _), (0, _), (1, _)]) (pc := 85) G dX5_countOf_85 rfl (by decide) rfl ?_
    refine wp_iconst (pc := 86) G dX5_countOf_86 ?_
    refine wp_istore_n (L' := [(3, _), (2, _), (0, _), (1, _)]) (pc := 87) G dX5_countOf_87 rfl (by decide) rfl ?_
    refine wp_sub (L' := [(3, _), (2, _), (0, _)]) [0, 1, 2] rfl ?_
    have loop : ∀ (n : Nat) (k s : Int) (M1 : Nat → Int → Int), (0 ≤ k ∧ k ≤ 72) → (73 ≤ k + n) → (fr [6, 7, 8, 11, 12, 13, 14] M M1) → (s = sm (fullF (M 0)) k.toNat) → Wp g F [MB g ad M1] 0 0 88 [(3, iV k), (2, iV s), (0, .ref (ad 25))] [] := by
      intro n
      induction n with
      | zero =>
        intro k s M1 hk hn hf hs
        exfalso
        omega
      | succ n ih =>
        intro k s M1 hk hn hf hs
        have hz : M1 0 = M 0 := hf 0 (by decide)
        refine wp_iload_n (pc := 88) G dX5_countOf_88 rfl 0 rfl ?_
        refine wp_bipush (pc := 89) G dX5_countOf_89 (by decide) ?_
        refine wp_icmp_ge (tgt := 131) (pc := 91) G dX5_countOf_91 (by omega) (by omega) (by decide) (fun h_91 => ?_) (fun h_91 => ?_)
        · refine wp_iload_n (pc := 131) G dX5_countOf_131 rfl 1 rfl ?_
          exact wm_iret (pc := 132) G R9 dX5_countOf_132 ⟨hf, by unfold countZ; rw [if_neg (by omega), if_neg (by omega), if_neg (by omega), if_neg (by omega), if_neg (by omega), if_neg (by omega), hs, show k = 72 by omega]; rfl⟩
        · refine wp_iload_n (pc := 94) G dX5_countOf_94 rfl 1 rfl ?_
          refine wp_aload_n (pc := 95) G dX5_countOf_95 rfl 2 rfl ?_
          refine wm_get_0 (pc := 96) G dX5_countOf_96 fX5_7_4 ?_
          refine wp_sipush (pc := 99) G dX5_countOf_99 (by decide) ?_
          refine wp_iload_n (pc := 102) G dX5_countOf_102 rfl 0 rfl ?_
          refine wp_iadd (pc := 103) G dX5_countOf_103 ?_
          refine wm_ald_0 (pc := 104) G dX5_countOf_104 (by omega) ?_
          refine wp_lconst1 (pc := 105) G dX5_countOf_105 ?_
          refine wp_lcmp_ne (tgt := 122) (pc := 106) G dX5_countOf_106 dX5_countOf_107 (by rw [hz]; have := (hK.1 k (by omega)).2.2.2.2; omega) (by omega) (by decide) (fun h_106 => ?_) (fun h_106 => ?_)
          · refine wp_iconst (pc := 122) G dX5_countOf_122 ?_
            refine wp_iadd (pc := 123) G dX5_countOf_123 ?_
            refine wp_istore_n (L' := [(2, _), (3, _), (0, _)]) (pc := 124) G dX5_countOf_124 rfl (by decide) rfl ?_
            refine wp_iinc (L' := [(3, _), (2, _), (0, _)]) (pc := 125) G dX5_countOf_125 1 rfl (by decide) rfl ?_
            refine wp_goto (tgt := 88) (pc := 128) G dX5_countOf_128 (by decide) ?_
            first
              | (have e9 : fullF (M 0) k = 1 := if_pos ⟨by rw [← hz]; exact h_106, by rw [hz] at h_115; exact h_115⟩
                 exact ih (k + 1) (s + 1) M_112 (by omega) (by omega) (hf.tr (h_112.1.up (by decide))) (by rw [tn_s hk.1]; unfold sm; rw [← hs, show ((k.toNat : Nat) : Int) = k by omega, e9]))
              | (have e9 : fullF (M 0) k = 0 := if_neg (fun q => by rw [hz] at h_115; exact h_115 q.2)
                 exact ih (k + 1) (s + 0) M_112 (by omega) (by omega) (hf.tr (h_112.1.up (by decide))) (by rw [tn_s hk.1]; unfold sm; rw [← hs, show ((k.toNat : Nat) : Int) = k by omega, e9]))
              | (have e9 : fullF (M 0) k = 0 := if_neg (fun q => by rw [hz] at h_106; exact h_106 q.1)
                 exact ih (k + 1) (s + 0) M1 (by omega) (by omega) hf (by rw [tn_s hk.1]; unfold sm; rw [← hs, show ((k.toNat : Nat) : Int) = k by omega, e9]))
          · refine wp_aload_n (pc := 110) G dX5_countOf_110 rfl 2 rfl ?_
            refine wp_iload_n (pc := 111) G dX5_countOf_111 rfl 0 rfl ?_
            refine wm_calli1 (pc := 112) G dX5_countOf_112 kX5_136 (ct_isFull hg (by rw [hz]; exact hL) (by rw [hz]; exact hK) (by omega) rfl) (by decide) (by decide) (Nat.le_of_ble_eq_true rfl) (fun z_112 M_112 h_112 => ?_)
            obtain ⟨⟨h_112, -⟩, hb112⟩ := h_112
            have h_112 := And.intro h_112 trivial
            refine wp_if_eq (tgt := 122) (pc := 115) G dX5_countOf_115 hb112.r (by decide) (fun h_115 => ?_) (fun h_115 => ?_)
            · have h_115 := hb112.f h_115
              refine wp_iconst (pc := 122) G dX5_countOf_122 ?_
              refine wp_iadd (pc := 123) G dX5_countOf_123 ?_
              refine wp_istore_n (L' := [(2, _), (3, _), (0, _)]) (pc := 124) G dX5_countOf_124 rfl (by decide) rfl ?_
              refine wp_iinc (L' := [(3, _), (2, _), (0, _)]) (pc := 125) G dX5_countOf_125 1 rfl (by decide) rfl ?_
              refine wp_goto (tgt := 88) (pc := 128) G dX5_countOf_128 (by decide) ?_
              first
                | (have e9 : fullF (M 0) k = 1 := if_pos ⟨by rw [← hz]; exact h_106, by rw [hz] at h_115; exact h_115⟩
                   exact ih (k + 1) (s + 1) M_112 (by omega) (by omega) (hf.tr (h_112.1.up (by decide))) (by rw [tn_s hk.1]; unfold sm; rw [← hs, show ((k.toNat : Nat) : Int) = k by omega, e9]))
                | (have e9 : fullF (M 0) k = 0 := if_neg (fun q => by rw [hz] at h_115; exact h_115 q.2)
                   exact ih (k + 1) (s + 0) M_112 (by omega) (by omega) (hf.tr (h_112.1.up (by decide))) (by rw [tn_s hk.1]; unfold sm; rw [← hs, show ((k.toNat : Nat) : Int) = k by omega, e9]))
                | (have e9 : fullF (M 0) k = 0 := if_neg (fun q => by rw [hz] at h_106; exact h_106 q.1)
                   exact ih (k + 1) (s + 0) M1 (by omega) (by omega) hf (by rw [tn_s hk.1]; unfold sm; rw [← hs, show ((k.toNat : Nat) : Int) = k by omega, e9]))
            · have h_115 := hb112.t h_115
              refine wp_iconst (pc := 118) G dX5_countOf_118 ?_
              refine wp_goto (tgt := 123) (pc := 119) G dX5_countOf_119 (by decide) ?_
              refine wp_iadd (pc := 123) G dX5_countOf_123 ?_
              refine wp_istore_n (L' := [(2, _), (3, _), (0, _)]) (pc := 124) G dX5_countOf_124 rfl (by decide) rfl ?_
              refine wp_iinc (L' := [(3, _), (2, _), (0, _)]) (pc := 125) G dX5_countOf_125 1 rfl (by decide) rfl ?_
              refine wp_goto (tgt := 88) (pc := 128) G dX5_countOf_128 (by decide) ?_
              first
                | (have e9 : fullF (M 0) k = 1 := if_pos ⟨by rw [← hz]; exact h_106, by rw [hz] at h_115; exact h_115⟩
                   exact ih (k + 1) (s + 1) M_112 (by omega) (by omega) (hf.tr (h_112.1.up (by decide))) (by rw [tn_s hk.1]; unfold sm; rw [← hs, show ((k.toNat : Nat) : Int) = k by omega, e9]))
                | (have e9 : fullF (M 0) k = 0 := if_neg (fun q => by rw [hz] at h_115; exact h_115 q.2)
                   exact ih (k + 1) (s + 0) M_112 (by omega) (by omega) (hf.tr (h_112.1.up (by decide))) (by rw [tn_s hk.1]; unfold sm; rw [← hs, show ((k.toNat : Nat) : Int) = k by omega, e9]))
                | (have e9 : fullF (M 0) k = 0 := if_neg (fun q => by rw [hz] at h_106; exact h_106 q.1)
                   exact ih (k + 1) (s + 0) M1 (by omega) (by omega) hf (by rw [tn_s hk.1]; unfold sm; rw [← hs, show ((k.toNat : Nat) : Int) = k by omega, e9]))
    exact loop 74 0 0 M (by omega) (by omega) fr.rf rfl
