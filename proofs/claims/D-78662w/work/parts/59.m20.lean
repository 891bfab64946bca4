/-! THE CALLS OF THE MODEL: course, deepest -/
set_option maxRecDepth 100000
/-- the plains on the way from x, and those before -/
noncomputable def crO (az : Int → Int) : Nat → Int → Int → Int
  | 0, s, _ => s
  | n + 1, s, x => if nxt az x = -1 then s else crO az n (orZ s (plainZ az (nxt az x))) (nxt az x)
noncomputable def crZ (az : Int → Int) (c : Int) : Int := crO az 100 (plainZ az c) c
theorem crO_s {az : Int → Int} {n : Nat} {s x : Int} (h : nxt az x ≠ -1) : crO az (n + 1) s x = crO az n (orZ s (plainZ az (nxt az x))) (nxt az x) := if_neg h
theorem crO_e {az : Int → Int} {n : Nat} {s x : Int} (h : nxt az x = -1) : crO az (n + 1) s x = s := if_pos h
theorem nxt_e {az : Int → Int} {x : Int} : nxt az x = if andZ (plainZ az x) (az 2) ≠ 0 then -1 else way az (plainZ az x) := rfl
set_option maxHeartbeats 4000000 in
theorem ct_course {g : GV} (hg : GOk g) {ad : Nat → Nat} {M : Nat → Int → Int} (hA : okA (M 0)) (hW : waterZ (M 0) ≤ 1000000) {c : Int} (hc : -2147483648 ≤ c ∧ c ≤ 2147483647) : CMl g ad yX5_course cX5_course 7 6 [iV c] M (fun z M' => (cod (isC (M 0) c) (True) (True) (M' 4 0) ∧ fr SC M M') ∨ ((isC (M 0) c) ∧ (True) ∧ (True) ∧ M' 4 0 = 0 ∧ fr SC M M' ∧ z = crZ (M 0) c)) := by
  refine wm_ofl hg (by decide +kernel) (Nat.le_of_ble_eq_true rfl) (fun F G R9 => ?_)
  have G : FxOk g F cX5_course RX5 7 6 := G
  refine wp_loc (L' := [(0, _), (1, _)]) rfl ?_
  refine wp_aload_n (pc := 0) G dX5_course_0 rfl 0 rfl ?_
  refine wp_aload_n (pc := 1) G dX5_course_1 rfl 0 rfl ?_
  refine wp_iload_n (pc := 2) G dX5_course_2 rfl 1 rfl ?_
  refine wm_calli1 (pc := 3) G dX5_course_3 kX5_73 (ct_isCell hg hA.L hc) (by decide) (by decide) (Nat.le_of_ble_eq_true rfl) (fun z_3 M_3 h_3 => ?_)
  obtain ⟨rfl, h_3⟩ := h_3
  refine wp_iconst (pc := 6) G dX5_course_6 ?_
  refine wp_iconst (pc := 7) G dX5_course_7 ?_
  refine wm_calli3 (pc := 8) G dX5_course_8 kX5_183 (ct_goes hg h_3.z (by decide) (by decide)) (by decide) (by decide) (Nat.le_of_ble_eq_true rfl) (fun z_8 M_8 h_8 => ?_)
  obtain ⟨hm8, hb8⟩ := h_8
  have gc := goes_c (P := isC (M 0) c) (Q := True) (R := True) h_3 (isB.i1 trivial) (isB.i1 trivial)
  have f4 : fr SC M M_8 := by rw [hm8]; exact fr.rf.s1 (by decide)
  have g4 : ∀ t, M_8 = ms1 M 4 t → M_8 4 0 = t := fun t q => by rw [q]; rfl
  have g4 := g4 _ hm8
  refine wp_if_ne (tgt := 16) (pc := 11) G dX5_course_11 hb8.r (by decide) (fun h_11 => ?_) (fun h_11 => ?_)
  · have h_11 := hb8.t h_11
    have gc := (gc.resolve_left (fun q => q.1 h_11)).2
    have g40 : M_8 4 0 = 0 := by rw [g4]; exact h_11
    have z8 : M_8 0 = M 0 := by rw [hm8]; rfl
    have hL8 : okL (M_8 0) := by rw [z8]; exact hA.L
    have hc8 : isC (M_8 0) c := by rw [z8]; exact gc.1
    have hdr := hL8.dr
    have loop : ∀ (n : Nat) (x s : Int), (isC (M_8 0) x) → (hgt (M_8 0) x + 1 ≤ n) → (okS s) → (crO (M_8 0) n s x = crZ (M_8 0) c) → Wp g F [MB g ad M_8] 0 0 49 [(6, iV (nxt (M_8 0) x)), (4, jV s), (0, .ref (ad 25))] [] := by
      intro n
      induction n with
      | zero =>
        intro x s hx hn hs hc9
        exfalso
        have := hL8.hg (hx.lt hL8)
        omega
      | succ n ih =>
        intro x s hx hn hs hc9
        have hnr := nxt_r hL8 hx
        have hnb : -1 ≤ nxt (M_8 0) x ∧ nxt (M_8 0) x ≤ 35 := by
          rcases hnr with h9 | h9
          · omega
          · have := h9.1.lt hL8; omega
        have hdr := hL8.dr
        refine wp_iload (pc := 49) G dX5_course_49 0 rfl ?_
        refine wp_iconst (pc := 51) G dX5_course_51 ?_
        refine wp_icmp_eq (tgt := 95) (pc := 52) G dX5_course_52 (by omega) (by omega) (by decide) (fun h_52 => ?_) (fun h_52 => ?_)
        · refine wp_lload (pc := 95) G dX5_course_95 1 rfl ?_
          refine wm_lret (pc := 97) G R9 dX5_course_97 (Or.inr ⟨gc.1, gc.2.1, gc.2.2, g40, f4, ?_⟩)
          rw [← z8, ← hc9]; rw [crO_e h_52]
        · refine wp_aload_n (pc := 55) G dX5_course_55 rfl 2 rfl ?_
          refine wp_iload (pc := 56) G dX5_course_56 0 rfl ?_
          refine wm_calll1 (pc := 58) G dX5_course_58 kX5_98 (ct_plain hg hL8 (hnr.resolve_left h_52).1) (by decide) (by decide) (Nat.le_of_ble_eq_true rfl) (fun z_58 M_58 h_58 => ?_)
          obtain ⟨rfl, h_58⟩ := h_58
          have h_58 := h_58.e
          have hok : okS z_58 := by rw [h_58]; exact (plainZ_p _ _).1
          have hr := hnr.resolve_left h_52
          have hand := okS_and (b := M_8 0 2) hok
          refine wp_lstore_n (L' := [(2, _), (6, _), (4, _), (0, _)]) (pc := 61) G dX5_course_61 rfl (by decide) rfl ?_
          refine wp_lload (pc := 62) G dX5_course_62 2 rfl ?_
          refine wp_lload_n (pc := 64) G dX5_course_64 rfl 0 rfl ?_
          refine wp_lor (pc := 65) G dX5_course_65 hs.1 hok.1 ?_
          refine wp_lstore (L' := [(4, _), (2, _), (6, _), (0, _)]) (pc := 66) G dX5_course_66 (by decide) rfl ?_
          refine wp_lload_n (pc := 68) G dX5_course_68 rfl 1 rfl ?_
          refine wp_aload_n (pc := 69) G dX5_course_69 rfl 3 rfl ?_
          refine wm_get_0 (pc := 70) G dX5_course_70 fX5_7_4 ?_
          refine wp_iconst (pc := 73) G dX5_course_73 ?_
          refine wm_ald_0 (pc := 74) G dX5_course_74 (by omega) ?_
          refine wp_land (pc := 75) G dX5_course_75 hok.1 hdr.1 ?_
          refine wp_lconst0 (pc := 76) G dX5_course_76 ?_
          refine wp_lcmp_eq (tgt := 85) (pc := 77) G dX5_course_77 dX5_course_78 (by omega) (by omega) (by decide) (fun h_77 => ?_) (fun h_77 => ?_)
          · refine wp_aload_n (pc := 85) G dX5_course_85 rfl 3 rfl ?_
            refine wp_lload_n (pc := 86) G dX5_course_86 rfl 1 rfl ?_
            refine wm_calli1 (pc := 87) G dX5_course_87 kX5_102 (ct_way hg hL8 hok) (by decide) (by decide) (Nat.le_of_ble_eq_true rfl) (fun z_87 M_87 h_87 => ?_)
            obtain ⟨rfl, h_87⟩ := h_87
            refine wp_istore (L' := [(6, _), (4, _), (2, _), (0, _)]) (pc := 90) G dX5_course_90 (by decide) rfl ?_
            refine wp_goto (tgt := 49) (pc := 92) G dX5_course_92 (by decide) ?_
            refine wp_sub (L' := [(6, _), (4, _), (0, _)]) [0, 1, 3] rfl ?_
            first
              | (have e9 : nxt (M_8 0) (nxt (M_8 0) x) = -1 := by rw [nxt_e (x := nxt (M_8 0) x), ← h_58]; exact if_pos h_77
                 have goal := ih (nxt (M_8 0) x) (orZ s z_58) hr.1 (by omega) (okS_or hs hok) (by rw [← hc9, h_58, crO_s h_52])
                 rw [e9] at goal
                 exact goal)
              | (have e9 : nxt (M_8 0) (nxt (M_8 0) x) = z_87 := by rw [nxt_e (x := nxt (M_8 0) x), ← h_58, if_neg (by omega)]; exact h_87.symm
                 have goal := ih (nxt (M_8 0) x) (orZ s z_58) hr.1 (by omega) (okS_or hs hok) (by rw [← hc9, h_58, crO_s h_52])
                 rw [e9] at goal
                 exact goal)
          · refine wp_iconst (pc := 81) G dX5_course_81 ?_
            refine wp_goto (tgt := 90) (pc := 82) G dX5_course_82 (by decide) ?_
            refine wp_istore (L' := [(6, _), (4, _), (2, _), (0, _)]) (pc := 90) G dX5_course_90 (by decide) rfl ?_
            refine wp_goto (tgt := 49) (pc := 92) G dX5_course_92 (by decide) ?_
            refine wp_sub (L' := [(6, _), (4, _), (0, _)]) [0, 1, 3] rfl ?_
            first
              | (have e9 : nxt (M_8 0) (nxt (M_8 0) x) = -1 := by rw [nxt_e (x := nxt (M_8 0) x), ← h_58]; exact if_pos h_77
                 have goal := ih (nxt (M_8 0) x) (orZ s z_58) hr.1 (by omega) (okS_or hs hok) (by rw [← hc9, h_58, crO_s h_52])
                 rw [e9] at goal
                 exact goal)
              | (have e9 : nxt (M_8 0) (nxt (M_8 0) x) = z_87 := by rw [nxt_e (x := nxt (M_8 0) x), ← h_58, if_neg (by omega)]; exact h_87.symm
                 have goal := ih (nxt (M_8 0) x) (orZ s z_58) hr.1 (by omega) (okS_or hs hok) (by rw [← hc9, h_58, crO_s h_52])
                 rw [e9] at goal
                 exact goal)
    refine wp_aload_n (pc := 16) G dX5_course_16 rfl 0 rfl ?_
    refine wp_iload_n (pc := 17) G dX5_course_17 rfl 1 rfl ?_
    refine wm_calll1 (pc := 18) G dX5_course_18 kX5_98 (ct_plain hg hL8 hc8) (by decide) (by decide) (Nat.le_of_ble_eq_true rfl) (fun z_18 M_18 h_18 => ?_)
    obtain ⟨rfl, h_18⟩ := h_18
    have h_18 := h_18.e
    have hok : okS z_18 := by rw [h_18]; exact (plainZ_p _ _).1
    have hand := okS_and (b := M_8 0 2) hok
    refine wp_lstore_n (L' := [(2, _), (0, _), (1, _)]) (pc := 21) G dX5_course_21 rfl (by decide) rfl ?_
    refine wp_lload_n (pc := 22) G dX5_course_22 rfl 0 rfl ?_
    refine wp_lstore (L' := [(4, _), (2, _), (0, _), (1, _)]) (pc := 23) G dX5_course_23 (by decide) rfl ?_
    refine wp_lload_n (pc := 25) G dX5_course_25 rfl 1 rfl ?_
    refine wp_aload_n (pc := 26) G dX5_course_26 rfl 2 rfl ?_
    refine wm_get_0 (pc := 27) G dX5_course_27 fX5_7_4 ?_
    refine wp_iconst (pc := 30) G dX5_course_30 ?_
    refine wm_ald_0 (pc := 31) G dX5_course_31 (by omega) ?_
    refine wp_land (pc := 32) G dX5_course_32 hok.1 hdr.1 ?_
    refine wp_lconst0 (pc := 33) G dX5_course_33 ?_
    refine wp_lcmp_eq (tgt := 42) (pc := 34) G dX5_course_34 dX5_course_35 (by unfold okS at hand; omega) (by omega) (by decide) (fun h_34 => ?_) (fun h_34 => ?_)
    · refine wp_aload_n (pc := 42) G dX5_course_42 rfl 2 rfl ?_
      refine wp_lload_n (pc := 43) G dX5_course_43 rfl 1 rfl ?_
      refine wm_calli1 (pc := 44) G dX5_course_44 kX5_102 (ct_way hg hL8 hok) (by decide) (by decide) (Nat.le_of_ble_eq_true rfl) (fun z_44 M_44 h_44 => ?_)
      obtain ⟨rfl, h_44⟩ := h_44
      refine wp_istore (L' := [(6, _), (4, _), (2, _), (0, _), (1, _)]) (pc := 47) G dX5_course_47 (by decide) rfl ?_
      refine wp_sub (L' := [(6, _), (4, _), (0, _)]) [0, 1, 3] rfl ?_
      first
        | (have e9 : nxt (M_8 0) c = -1 := by rw [nxt_e, ← h_18]; exact if_pos h_34
           have goal := loop 100 c z_18 hc8 (by have := hL8.hg (hc8.lt hL8); omega) hok (by rw [h_18]; rfl)
           rw [e9] at goal
           exact goal)
        | (have e9 : nxt (M_8 0) c = z_44 := by rw [nxt_e, ← h_18, if_neg (by omega)]; exact h_44.symm
           have goal := loop 100 c z_18 hc8 (by have := hL8.hg (hc8.lt hL8); omega) hok (by rw [h_18]; rfl)
           rw [e9] at goal
           exact goal)
    · refine wp_iconst (pc := 38) G dX5_course_38 ?_
      refine wp_goto (tgt := 47) (pc := 39) G dX5_course_39 (by decide) ?_
      refine wp_istore (L' := [(6, _), (4, _), (2, _), (0, _), (1, _)]) (pc := 47) G dX5_course_47 (by decide) rfl ?_
      refine wp_sub (L' := [(6, _), (4, _), (0, _)]) [0, 1, 3] rfl ?_
      first
        | (have e9 : nxt (M_8 0) c = -1 := by rw [nxt_e, ← h_18]; exact if_pos h_34
           have goal := loop 100 c z_18 hc8 (by have := hL8.hg (hc8.lt hL8); omega) hok (by rw [h_18]; rfl)
           rw [e9] at goal
           exact goal)
        | (have e9 : nxt (M_8 0) c = z_44 := by rw [nxt_e, ← h_18, if_neg (by omega)]; exact h_44.symm
           have goal := loop 100 c z_18 hc8 (by have := hL8.hg (hc8.lt hL8); omega) hok (by rw [h_18]; rfl)
           rw [e9] at goal
           exact goal)
  · have h_11 := hb8.f h_11
    refine wp_lconst0 (pc := 14) G dX5_course_14 ?_
    exact wm_lret (pc := 15) G R9 dX5_course_15 (Or.inl ⟨by rw [g4]; exact (gc.resolve_right (fun q => h_11 q.1)).2, f4⟩)
