/-! THE MODEL: plains, ways -/
set_option maxRecDepth 100000
theorem clo_s {az : Int → Int} {m a s : Int} (h : clo az m a s) (hs : 0 ≤ s) (hb : nbr az a s ≠ -1 → hgt az (nbr az a s) = hgt az a → thr az a (nbr az a s) = hgt az a → inS m (nbr az a s)) : clo az m a (s + 1) := by
  intro x t h0 ht h1 h2 h3 h4 h5
  by_cases e : x = a ∧ t = s
  · rw [e.1, e.2] at h3 h4 h5 ⊢
    exact hb h3 h4 h5
  · exact h x t h0 ht (by omega) h2 h3 h4 h5
theorem clo_n {az : Int → Int} {m a s : Int} (hs : s = 4) (h : clo az m a s) : clo az m (a + 1) 0 := by
  intro x t h0 ht h1
  exact h x t h0 ht (by omega)
theorem clo_no {az : Int → Int} {m a s : Int} (hi : ¬ inS m a) (hs : s = 0) (h : clo az m a s) : clo az m (a + 1) 0 := by
  intro x t h0 ht h1 h2
  by_cases e : x = a
  · rw [e] at h2
    exact absurd h2 hi
  · exact h x t h0 ht (by omega) h2
set_option maxHeartbeats 4000000 in
theorem ct_plain {g : GV} (hg : GOk g) {ad : Nat → Nat} {M : Nat → Int → Int} (hL : okL (M 0)) {c : Int} (hc : isC (M 0) c) : CMl g ad yX5_plain cX5_plain 8 5 [iV c] M (fun z M' => M = M' ∧ isPl (M 0) c z) := by
  refine wm_ofl hg (by decide +kernel) (Nat.le_of_ble_eq_true rfl) (fun F G R9 => ?_)
  have G : FxOk g F cX5_plain RX5 8 5 := G
  refine wp_loc (L' := [(0, _), (1, _)]) rfl ?_
  have hc2 := hc.lt hL
  have hmm := hL.m
  have loop : ∀ (n : Nat) (m r : Int), (okS m) → (inS m c) → (∀ j, 0 ≤ j ∧ j < 36 → inS m j → pl (M 0) c j) → (2 * (68719476736 - m) + r + 1 ≤ n) → ((r = 0 ∧ clo (M 0) m (mny (M 0)) 0) ∨ r = 1) → Wp g F [MB g ad M] 0 0 7 [(4, iV r), (2, jV m), (0, .ref (ad 25)), (1, iV c)] [] := by
    intro n
    induction n with
    | zero =>
      intro m r hok hi hsd hn hr
      exfalso
      omega
    | succ n ih =>
      intro m r hok hi hsd hn hr
      refine wp_iload (pc := 7) G dX5_plain_7 0 rfl ?_
      refine wp_if_eq (tgt := 120) (pc := 9) G dX5_plain_9 (by omega) (by decide) (fun h_9 => ?_) (fun h_9 => ?_)
      · refine wp_lload_n (pc := 120) G dX5_plain_120 rfl 1 rfl ?_
        exact wm_lret (pc := 121) G R9 dX5_plain_121 ⟨rfl, clo_end hL hc hi hsd (hr.resolve_right (by omega)).2 hok⟩
      · refine wp_iconst (pc := 12) G dX5_plain_12 ?_
        refine wp_istore (L' := [(4, _), (2, _), (0, _), (1, _)]) (pc := 13) G dX5_plain_13 (by decide) rfl ?_
        refine wp_iconst (pc := 15) G dX5_plain_15 ?_
        refine wp_istore (L' := [(5, _), (4, _), (2, _), (0, _), (1, _)]) (pc := 16) G dX5_plain_16 (by decide) rfl ?_
        have mid : ∀ (n : Nat) (a m2 r2 : Int), (0 ≤ a ∧ a ≤ mny (M 0)) → (mny (M 0) + 1 ≤ a + n) → (okS m2) → (inS m2 c) → (∀ j, 0 ≤ j ∧ j < 36 → inS m2 j → pl (M 0) c j) → (m ≤ m2) → ((r2 = 0 ∧ m2 = m ∧ clo (M 0) m2 a 0) ∨ (r2 = 1 ∧ m < m2)) → Wp g F [MB g ad M] 0 0 18 [(5, iV a), (4, iV r2), (2, jV m2), (0, .ref (ad 25)), (1, iV c)] [] := by
          intro n
          induction n with
          | zero =>
            intro a m2 r2 hab hn2 hok2 hi2 hsd2 hle hcl
            exfalso
            omega
          | succ n ih2 =>
            intro a m2 r2 hab hn2 hok2 hi2 hsd2 hle hcl
            refine wp_iload (pc := 18) G dX5_plain_18 0 rfl ?_
            refine wp_aload_n (pc := 20) G dX5_plain_20 rfl 3 rfl ?_
            refine wm_calli0 (pc := 21) G dX5_plain_21 kX5_61 (ct_many hg) (by decide) (by decide) (Nat.le_of_ble_eq_true rfl) (fun z_21 M_21 h_21 => ?_)
            obtain ⟨rfl, h_21⟩ := h_21
            subst h_21
            refine wp_icmp_ge (tgt := 117) (pc := 24) G dX5_plain_24 (by omega) (by omega) (by decide) (fun h_24 => ?_) (fun h_24 => ?_)
            · refine wp_goto (tgt := 7) (pc := 117) G dX5_plain_117 (by decide) ?_
              refine wp_sub (L' := [(4, _), (2, _), (0, _), (1, _)]) [1, 2, 3, 4] rfl ?_
              exact ih m2 r2 hok2 hi2 hsd2 (by rcases hcl with h | h <;> omega) (by
                rcases hcl with h | h
                · exact Or.inl ⟨h.1, by rw [show mny (M 0) = a by omega]; exact h.2.2⟩
                · exact Or.inr h.1)
            · refine wp_iconst (pc := 27) G dX5_plain_27 ?_
              refine wp_istore (L' := [(6, _), (5, _), (4, _), (2, _), (0, _), (1, _)]) (pc := 28) G dX5_plain_28 (by decide) rfl ?_
              have ha : isC (M 0) a := ⟨hab.1, h_24⟩
              have ha2 := ha.lt hL
              have inner : ∀ (n : Nat) (s m2 r2 : Int), (0 ≤ s ∧ s ≤ 4) → (5 ≤ s + n) → (okS m2) → (inS m2 c) → (∀ j, 0 ≤ j ∧ j < 36 → inS m2 j → pl (M 0) c j) → (m ≤ m2) → (s = 0 ∨ inS m2 a) → ((r2 = 0 ∧ m2 = m ∧ clo (M 0) m2 a s) ∨ (r2 = 1 ∧ m < m2)) → Wp g F [MB g ad M] 0 0 30 [(6, iV s), (5, iV a), (4, iV r2), (2, jV m2), (0, .ref (ad 25)), (1, iV c)] [] := by
                intro n
                induction n with
                | zero =>
                  intro s m2 r2 hs hn3 hok2 hi2 hsd2 hle hsm hcl2
                  exfalso
                  omega
                | succ n ih3 =>
                  intro s m2 r2 hs hn3 hok2 hi2 hsd2 hle hsm hcl2
                  refine wp_iload (pc := 30) G dX5_plain_30 0 rfl ?_
                  refine wp_iconst (pc := 32) G dX5_plain_32 ?_
                  refine wp_icmp_ge (tgt := 111) (pc := 33) G dX5_plain_33 (by omega) (by omega) (by decide) (fun h_33 => ?_) (fun h_33 => ?_)
                  · refine wp_iinc (L' := [(5, _), (6, _), (4, _), (2, _), (0, _), (1, _)]) (pc := 111) G dX5_plain_111 1 rfl (by decide) rfl ?_
                    refine wp_goto (tgt := 18) (pc := 114) G dX5_plain_114 (by decide) ?_
                    refine wp_sub (L' := [(5, _), (4, _), (2, _), (0, _), (1, _)]) [0, 2, 3, 4, 5] rfl ?_
                    first
                      | exact ih2 (a + 1) m2 r2 (by omega) (by omega) hok2 hi2 hsd2 hle (hcl2.imp (fun h => ⟨h.1, h.2.1, clo_n (show s = 4 by omega) h.2.2⟩) id)
                      | exact ih2 (a + 1) m2 r2 (by omega) (by omega) hok2 hi2 hsd2 hle (hcl2.imp (fun h => ⟨h.1, h.2.1, clo_no h_42 (hsm.resolve_right h_42) h.2.2⟩) id)
                  · refine wp_lload_n (pc := 36) G dX5_plain_36 rfl 3 rfl ?_
                    refine wp_iload (pc := 37) G dX5_plain_37 1 rfl ?_
                    refine ws_calli2 (pc := 39) G dX5_plain_39 kX5_91 (ct_has hg (by omega) (by omega)) (by decide) (by decide) (Nat.le_of_ble_eq_true rfl) (fun z_39 h_39 => ?_)
                    refine wp_if_eq (tgt := 111) (pc := 42) G dX5_plain_42 h_39.r (by decide) (fun h_42 => ?_) (fun h_42 => ?_)
                    · have h_42 := h_39.f h_42
                      refine wp_iinc (L' := [(5, _), (6, _), (4, _), (2, _), (0, _), (1, _)]) (pc := 111) G dX5_plain_111 1 rfl (by decide) rfl ?_
                      refine wp_goto (tgt := 18) (pc := 114) G dX5_plain_114 (by decide) ?_
                      refine wp_sub (L' := [(5, _), (4, _), (2, _), (0, _), (1, _)]) [0, 2, 3, 4, 5] rfl ?_
                      first
                        | exact ih2 (a + 1) m2 r2 (by omega) (by omega) hok2 hi2 hsd2 hle (hcl2.imp (fun h => ⟨h.1, h.2.1, clo_n (show s = 4 by omega) h.2.2⟩) id)
                        | exact ih2 (a + 1) m2 r2 (by omega) (by omega) hok2 hi2 hsd2 hle (hcl2.imp (fun h => ⟨h.1, h.2.1, clo_no h_42 (hsm.resolve_right h_42) h.2.2⟩) id)
                    · have h_42 := h_39.t h_42
                      refine wp_aload_n (pc := 45) G dX5_plain_45 rfl 4 rfl ?_
                      refine wp_iload (pc := 46) G dX5_plain_46 1 rfl ?_
                      refine wp_iload (pc := 48) G dX5_plain_48 0 rfl ?_
                      refine wm_calli2 (pc := 50) G dX5_plain_50 kX5_69 (ct_neighbor hg hL ha (by omega)) (by decide) (by decide) (Nat.le_of_ble_eq_true rfl) (fun z_50 M_50 h_50 => ?_)
                      obtain ⟨rfl, h_50⟩ := h_50
                      subst h_50
                      have hnb := nbr_r (s := s) hL ha
                      refine wp_istore (L' := [(7, _), (6, _), (5, _), (4, _), (2, _), (0, _), (1, _)]) (pc := 53) G dX5_plain_53 (by decide) rfl ?_
                      refine wp_iload (pc := 55) G dX5_plain_55 0 rfl ?_
                      refine wp_iconst (pc := 57) G dX5_plain_57 ?_
                      refine wp_icmp_eq (tgt := 105) (pc := 58) G dX5_plain_58 (by omega) (by omega) (by decide) (fun h_58 => ?_) (fun h_58 => ?_)
                      · refine wp_iinc (L' := [(6, _), (7, _), (5, _), (4, _), (2, _), (0, _), (1, _)]) (pc := 105) G dX5_plain_105 1 rfl (by decide) rfl ?_
                        refine wp_goto (tgt := 30) (pc := 108) G dX5_plain_108 (by decide) ?_
                        refine wp_sub (L' := [(6, _), (5, _), (4, _), (2, _), (0, _), (1, _)]) [0, 2, 3, 4, 5, 6] rfl ?_
                        first
                          | exact ih3 (s + 1) m2 r2 (by omega) (by omega) hok2 hi2 hsd2 hle (Or.inr h_42) (hcl2.imp (fun h => ⟨h.1, h.2.1, clo_s h.2.2 hs.1 (fun g1 g2 g3 => by first | exact absurd h_58 g1 | exact absurd (g2.trans hah) h_72 | exact absurd g3 h_83 | exact h_92)⟩) id)
                          | exact ih3 (s + 1) _ 1 (by omega) (by omega) (okS_or hok2 (okS_bit hb2)) ((inS_or c).mpr (Or.inl hi2)) (fun j hj h => by
                              rcases (inS_or j).mp h with h | h
                              · exact hsd2 j hj h
                              · rw [(inS_bit hb2.1 hj.1).mp h]
                                exact pl_s (hsd2 a ha2 h_42) ⟨ha, hb, by rw [h_72, hah], h_83, s, ⟨hs.1, h_33⟩, rfl⟩) (by have := or_lt hok2 hb2 h_92; omega) (Or.inr ((inS_or a).mpr (Or.inl h_42))) (Or.inr ⟨rfl, by have := or_lt hok2 hb2 h_92; omega⟩)
                      · have hb : isC (M 0) (nbr (M 0) a s) := hnb.resolve_left h_58
                        have hb2 := hb.lt hL
                        have hh1 := hL.hg hb2
                        have hh2 := hL.hg hc2
                        have hah := pl_h (hsd2 a ha2 h_42)
                        refine wp_aload_n (pc := 61) G dX5_plain_61 rfl 5 rfl ?_
                        refine wp_iload (pc := 62) G dX5_plain_62 0 rfl ?_
                        refine wm_calli1 (pc := 64) G dX5_plain_64 kX5_87 (ct_height hg (by omega)) (by decide) (by decide) (Nat.le_of_ble_eq_true rfl) (fun z_64 M_64 h_64 => ?_)
                        obtain ⟨rfl, h_64⟩ := h_64
                        subst h_64
                        refine wp_aload_n (pc := 67) G dX5_plain_67 rfl 5 rfl ?_
                        refine wp_iload_n (pc := 68) G dX5_plain_68 rfl 6 rfl ?_
                        refine wm_calli1 (pc := 69) G dX5_plain_69 kX5_87 (ct_height hg (by omega)) (by decide) (by decide) (Nat.le_of_ble_eq_true rfl) (fun z_69 M_69 h_69 => ?_)
                        obtain ⟨rfl, h_69⟩ := h_69
                        subst h_69
                        refine wp_icmp_ne (tgt := 105) (pc := 72) G dX5_plain_72 (by omega) (by omega) (by decide) (fun h_72 => ?_) (fun h_72 => ?_)
                        · refine wp_iinc (L' := [(6, _), (7, _), (5, _), (4, _), (2, _), (0, _), (1, _)]) (pc := 105) G dX5_plain_105 1 rfl (by decide) rfl ?_
                          refine wp_goto (tgt := 30) (pc := 108) G dX5_plain_108 (by decide) ?_
                          refine wp_sub (L' := [(6, _), (5, _), (4, _), (2, _), (0, _), (1, _)]) [0, 2, 3, 4, 5, 6] rfl ?_
                          first
                            | exact ih3 (s + 1) m2 r2 (by omega) (by omega) hok2 hi2 hsd2 hle (Or.inr h_42) (hcl2.imp (fun h => ⟨h.1, h.2.1, clo_s h.2.2 hs.1 (fun g1 g2 g3 => by first | exact absurd h_58 g1 | exact absurd (g2.trans hah) h_72 | exact absurd g3 h_83 | exact h_92)⟩) id)
                            | exact ih3 (s + 1) _ 1 (by omega) (by omega) (okS_or hok2 (okS_bit hb2)) ((inS_or c).mpr (Or.inl hi2)) (fun j hj h => by
                                rcases (inS_or j).mp h with h | h
                                · exact hsd2 j hj h
                                · rw [(inS_bit hb2.1 hj.1).mp h]
                                  exact pl_s (hsd2 a ha2 h_42) ⟨ha, hb, by rw [h_72, hah], h_83, s, ⟨hs.1, h_33⟩, rfl⟩) (by have := or_lt hok2 hb2 h_92; omega) (Or.inr ((inS_or a).mpr (Or.inl h_42))) (Or.inr ⟨rfl, by have := or_lt hok2 hb2 h_92; omega⟩)
                        · refine wp_aload_n (pc := 75) G dX5_plain_75 rfl 5 rfl ?_
                          refine wp_iload (pc := 76) G dX5_plain_76 2 rfl ?_
                          refine wp_iload (pc := 78) G dX5_plain_78 0 rfl ?_
                          refine wm_calli2 (pc := 80) G dX5_plain_80 kX5_95 (ct_runs hg hL ha hb) (by decide) (by decide) (Nat.le_of_ble_eq_true rfl) (fun z_80 M_80 h_80 => ?_)
                          obtain ⟨rfl, h_80⟩ := h_80
                          refine wp_if_eq (tgt := 105) (pc := 83) G dX5_plain_83 h_80.r (by decide) (fun h_83 => ?_) (fun h_83 => ?_)
                          · have h_83 := h_80.f h_83
                            refine wp_iinc (L' := [(6, _), (7, _), (5, _), (4, _), (2, _), (0, _), (1, _)]) (pc := 105) G dX5_plain_105 1 rfl (by decide) rfl ?_
                            refine wp_goto (tgt := 30) (pc := 108) G dX5_plain_108 (by decide) ?_
                            refine wp_sub (L' := [(6, _), (5, _), (4, _), (2, _), (0, _), (1, _)]) [0, 2, 3, 4, 5, 6] rfl ?_
                            first
                              | exact ih3 (s + 1) m2 r2 (by omega) (by omega) hok2 hi2 hsd2 hle (Or.inr h_42) (hcl2.imp (fun h => ⟨h.1, h.2.1, clo_s h.2.2 hs.1 (fun g1 g2 g3 => by first | exact absurd h_58 g1 | exact absurd (g2.trans hah) h_72 | exact absurd g3 h_83 | exact h_92)⟩) id)
                              | exact ih3 (s + 1) _ 1 (by omega) (by omega) (okS_or hok2 (okS_bit hb2)) ((inS_or c).mpr (Or.inl hi2)) (fun j hj h => by
                                  rcases (inS_or j).mp h with h | h
                                  · exact hsd2 j hj h
                                  · rw [(inS_bit hb2.1 hj.1).mp h]
                                    exact pl_s (hsd2 a ha2 h_42) ⟨ha, hb, by rw [h_72, hah], h_83, s, ⟨hs.1, h_33⟩, rfl⟩) (by have := or_lt hok2 hb2 h_92; omega) (Or.inr ((inS_or a).mpr (Or.inl h_42))) (Or.inr ⟨rfl, by have := or_lt hok2 hb2 h_92; omega⟩)
                          · have h_83 := h_80.t h_83
                            refine wp_lload_n (pc := 86) G dX5_plain_86 rfl 4 rfl ?_
                            refine wp_iload (pc := 87) G dX5_plain_87 0 rfl ?_
                            refine ws_calli2 (pc := 89) G dX5_plain_89 kX5_91 (ct_has hg (by omega) (by omega)) (by decide) (by decide) (Nat.le_of_ble_eq_true rfl) (fun z_89 h_89 => ?_)
                            refine wp_if_ne (tgt := 105) (pc := 92) G dX5_plain_92 h_89.r (by decide) (fun h_92 => ?_) (fun h_92 => ?_)
                            · have h_92 := h_89.t h_92
                              refine wp_iinc (L' := [(6, _), (7, _), (5, _), (4, _), (2, _), (0, _), (1, _)]) (pc := 105) G dX5_plain_105 1 rfl (by decide) rfl ?_
                              refine wp_goto (tgt := 30) (pc := 108) G dX5_plain_108 (by decide) ?_
                              refine wp_sub (L' := [(6, _), (5, _), (4, _), (2, _), (0, _), (1, _)]) [0, 2, 3, 4, 5, 6] rfl ?_
                              first
                                | exact ih3 (s + 1) m2 r2 (by omega) (by omega) hok2 hi2 hsd2 hle (Or.inr h_42) (hcl2.imp (fun h => ⟨h.1, h.2.1, clo_s h.2.2 hs.1 (fun g1 g2 g3 => by first | exact absurd h_58 g1 | exact absurd (g2.trans hah) h_72 | exact absurd g3 h_83 | exact h_92)⟩) id)
                                | exact ih3 (s + 1) _ 1 (by omega) (by omega) (okS_or hok2 (okS_bit hb2)) ((inS_or c).mpr (Or.inl hi2)) (fun j hj h => by
                                    rcases (inS_or j).mp h with h | h
                                    · exact hsd2 j hj h
                                    · rw [(inS_bit hb2.1 hj.1).mp h]
                                      exact pl_s (hsd2 a ha2 h_42) ⟨ha, hb, by rw [h_72, hah], h_83, s, ⟨hs.1, h_33⟩, rfl⟩) (by have := or_lt hok2 hb2 h_92; omega) (Or.inr ((inS_or a).mpr (Or.inl h_42))) (Or.inr ⟨rfl, by have := or_lt hok2 hb2 h_92; omega⟩)
                            · have h_92 := h_89.f h_92
                              refine wp_lload_n (pc := 95) G dX5_plain_95 rfl 4 rfl ?_
                              refine wp_lconst1 (pc := 96) G dX5_plain_96 ?_
                              refine wp_iload (pc := 97) G dX5_plain_97 0 rfl ?_
                              refine wp_bit (pc := 99) G dX5_plain_99 (by omega) ?_
                              have hbp := okS_bit hb2
                              refine wp_lor (pc := 100) G dX5_plain_100 (by omega) (by omega) ?_
                              refine wp_lstore_n (L' := [(2, _), (7, _), (6, _), (5, _), (4, _), (0, _), (1, _)]) (pc := 101) G dX5_plain_101 rfl (by decide) rfl ?_
                              refine wp_iconst (pc := 102) G dX5_plain_102 ?_
                              refine wp_istore (L' := [(4, _), (2, _), (7, _), (6, _), (5, _), (0, _), (1, _)]) (pc := 103) G dX5_plain_103 (by decide) rfl ?_
                              refine wp_iinc (L' := [(6, _), (4, _), (2, _), (7, _), (5, _), (0, _), (1, _)]) (pc := 105) G dX5_plain_105 3 rfl (by decide) rfl ?_
                              refine wp_goto (tgt := 30) (pc := 108) G dX5_plain_108 (by decide) ?_
                              refine wp_sub (L' := [(6, _), (5, _), (4, _), (2, _), (0, _), (1, _)]) [0, 4, 1, 2, 5, 6] rfl ?_
                              first
                                | exact ih3 (s + 1) m2 r2 (by omega) (by omega) hok2 hi2 hsd2 hle (Or.inr h_42) (hcl2.imp (fun h => ⟨h.1, h.2.1, clo_s h.2.2 hs.1 (fun g1 g2 g3 => by first | exact absurd h_58 g1 | exact absurd (g2.trans hah) h_72 | exact absurd g3 h_83 | exact h_92)⟩) id)
                                | exact ih3 (s + 1) _ 1 (by omega) (by omega) (okS_or hok2 (okS_bit hb2)) ((inS_or c).mpr (Or.inl hi2)) (fun j hj h => by
                                    rcases (inS_or j).mp h with h | h
                                    · exact hsd2 j hj h
                                    · rw [(inS_bit hb2.1 hj.1).mp h]
                                      exact pl_s (hsd2 a ha2 h_42) ⟨ha, hb, by rw [h_72, hah], h_83, s, ⟨hs.1, h_33⟩, rfl⟩) (by have := or_lt hok2 hb2 h_92; omega) (Or.inr ((inS_or a).mpr (Or.inl h_42))) (Or.inr ⟨rfl, by have := or_lt hok2 hb2 h_92; omega⟩)
              exact inner 5 0 m2 r2 (by omega) (by omega) hok2 hi2 hsd2 hle (Or.inl rfl) hcl
        exact mid 38 0 m 0 (by omega) (by omega) hok hi hsd (by omega) (Or.inl ⟨rfl, rfl, fun x t h0 h1 h2 => by omega⟩)
  refine wp_lconst1 (pc := 0) G dX5_plain_0 ?_
  refine wp_iload_n (pc := 1) G dX5_plain_1 rfl 1 rfl ?_
  refine wp_bit (pc := 2) G dX5_plain_2 (by omega) ?_
  refine wp_lstore_n (L' := [(2, _), (0, _), (1, _)]) (pc := 3) G dX5_plain_3 rfl (by decide) rfl ?_
  refine wp_iconst (pc := 4) G dX5_plain_4 ?_
  refine wp_istore (L' := [(4, _), (2, _), (0, _), (1, _)]) (pc := 5) G dX5_plain_5 (by decide) rfl ?_
  exact loop 200000000000 (2 ^ c.toNat) 1 (okS_bit hc2) ((inS_bit hc2.1 hc2.1).mpr rfl) (fun j hj h => by rw [(inS_bit hc2.1 hj.1).mp h]; exact pl_0 c) (by have := okS_bit hc2; omega) (Or.inr rfl)
set_option maxHeartbeats 4000000 in
theorem ct_way {g : GV} (hg : GOk g) {ad : Nat → Nat} {M : Nat → Int → Int} (hL : okL (M 0)) {m : Int} (hm : okS m) : CMi g ad yX5_way cX5_way 7 5 .int [jV m] M (fun z M' => M = M' ∧ z = way (M 0) m) := by
  refine wm_ofi hg (by decide +kernel) (Nat.le_of_ble_eq_true rfl) (fun F G R9 => ?_)
  have G : FxOk g F cX5_way RX5 7 5 := G
  refine wp_loc (L' := [(0, _), (1, _)]) rfl ?_
  have hmm := hL.m
  have hm2 : 0 ≤ m ∧ m < 4611686018427387904 := by omega
  have loop : ∀ (n : Nat) (a : Int), (0 ≤ a ∧ a ≤ mny (M 0)) → (mny (M 0) + 1 ≤ a + n) → (way (M 0) m = wyI (M 0) m a.toNat (mny (M 0) - a).toNat) → Wp g F [MB g ad M] 0 0 2 [(3, iV a), (0, .ref (ad 25)), (1, jV m)] [] := by
    intro n
    induction n with
    | zero =>
      intro a hab hn hw
      exfalso
      omega
    | succ n ih =>
      intro a hab hn hw
      refine wp_iload_n (pc := 2) G dX5_way_2 rfl 0 rfl ?_
      refine wp_aload_n (pc := 3) G dX5_way_3 rfl 1 rfl ?_
      refine wm_calli0 (pc := 4) G dX5_way_4 kX5_61 (ct_many hg) (by decide) (by decide) (Nat.le_of_ble_eq_true rfl) (fun z_4 M_4 h_4 => ?_)
      obtain ⟨rfl, h_4⟩ := h_4
      subst h_4
      refine wp_icmp_ge (tgt := 115) (pc := 7) G dX5_way_7 (by omega) (by omega) (by decide) (fun h_7 => ?_) (fun h_7 => ?_)
      · refine wp_iconst (pc := 115) G dX5_way_115 ?_
        exact wm_iret (pc := 116) G R9 dX5_way_116 ⟨rfl, by rw [hw, show mny (M 0) - a = 0 by omega]; rfl⟩
      · refine wp_iconst (pc := 10) G dX5_way_10 ?_
        refine wp_istore (L' := [(4, _), (3, _), (0, _), (1, _)]) (pc := 11) G dX5_way_11 (by decide) rfl ?_
        refine wp_iconst (pc := 13) G dX5_way_13 ?_
        refine wp_istore (L' := [(5, _), (4, _), (3, _), (0, _), (1, _)]) (pc := 14) G dX5_way_14 (by decide) rfl ?_
        have ha : isC (M 0) a := ⟨hab.1, h_7⟩
        have ha2 := ha.lt hL
        have inner : ∀ (n : Nat) (s b : Int), (0 ≤ s ∧ s ≤ 4) → (5 ≤ s + n) → (b = lbI (M 0) a s.toNat) → (s = 0 ∨ inS m a) → Wp g F [MB g ad M] 0 0 16 [(5, iV s), (4, iV b), (3, iV a), (0, .ref (ad 25)), (1, jV m)] [] := by
          intro n
          induction n with
          | zero =>
            intro s b hs hn2 hb hsm
            exfalso
            omega
          | succ n ih2 =>
            intro s b hs hn2 hb hsm
            have hbr := lbI_r hL ha s.toNat
            rw [← hb] at hbr
            refine wp_iload (pc := 16) G dX5_way_16 0 rfl ?_
            refine wp_iconst (pc := 18) G dX5_way_18 ?_
            refine wp_icmp_ge (tgt := 100) (pc := 19) G dX5_way_19 (by omega) (by omega) (by decide) (fun h_19 => ?_) (fun h_19 => ?_)
            · refine wp_iload (pc := 100) G dX5_way_100 1 rfl ?_
              refine wp_iconst (pc := 102) G dX5_way_102 ?_
              refine wp_icmp_eq (tgt := 109) (pc := 103) G dX5_way_103 (by omega) (by omega) (by decide) (fun h_103 => ?_) (fun h_103 => ?_)
              · refine wp_iinc (L' := [(3, _), (5, _), (4, _), (0, _), (1, _)]) (pc := 109) G dX5_way_109 2 rfl (by decide) rfl ?_
                refine wp_goto (tgt := 2) (pc := 112) G dX5_way_112 (by decide) ?_
                refine wp_sub (L' := [(3, _), (0, _), (1, _)]) [0, 3, 4] rfl ?_
                first
                  | exact ih (a + 1) (by omega) (by omega) (by rw [hw, wyI_s ⟨hab.1, h_7⟩, if_neg (fun h => h.2 (by unfold lb; rw [show (4 : Nat) = s.toNat by omega, ← hb]; exact h_103))])
                  | exact ih (a + 1) (by omega) (by omega) (by rw [hw, wyI_s ⟨hab.1, h_7⟩, if_neg (fun h => h_27 h.1)])
              · refine wp_iload (pc := 106) G dX5_way_106 1 rfl ?_
                first
                  | exact wm_iret (pc := 108) G R9 dX5_way_108 ⟨rfl, by
                      have e4 : lb (M 0) a = b := by unfold lb; rw [show (4 : Nat) = s.toNat by omega, ← hb]
                      rw [hw, wyI_s ⟨hab.1, h_7⟩, if_pos ⟨hsm.resolve_left (by omega), by rw [e4]; exact h_103⟩, e4]⟩
                  | exact absurd (show b = -1 by rw [hb, hsm.resolve_right h_27]; rfl) h_103
            · refine wp_lload_n (pc := 22) G dX5_way_22 rfl 4 rfl ?_
              refine wp_iload_n (pc := 23) G dX5_way_23 rfl 2 rfl ?_
              refine ws_calli2 (pc := 24) G dX5_way_24 kX5_91 (ct_has hg hm2 (by omega)) (by decide) (by decide) (Nat.le_of_ble_eq_true rfl) (fun z_24 h_24 => ?_)
              refine wp_if_eq (tgt := 100) (pc := 27) G dX5_way_27 h_24.r (by decide) (fun h_27 => ?_) (fun h_27 => ?_)
              · have h_27 := h_24.f h_27
                refine wp_iload (pc := 100) G dX5_way_100 1 rfl ?_
                refine wp_iconst (pc := 102) G dX5_way_102 ?_
                refine wp_icmp_eq (tgt := 109) (pc := 103) G dX5_way_103 (by omega) (by omega) (by decide) (fun h_103 => ?_) (fun h_103 => ?_)
                · refine wp_iinc (L' := [(3, _), (5, _), (4, _), (0, _), (1, _)]) (pc := 109) G dX5_way_109 2 rfl (by decide) rfl ?_
                  refine wp_goto (tgt := 2) (pc := 112) G dX5_way_112 (by decide) ?_
                  refine wp_sub (L' := [(3, _), (0, _), (1, _)]) [0, 3, 4] rfl ?_
                  first
                    | exact ih (a + 1) (by omega) (by omega) (by rw [hw, wyI_s ⟨hab.1, h_7⟩, if_neg (fun h => h.2 (by unfold lb; rw [show (4 : Nat) = s.toNat by omega, ← hb]; exact h_103))])
                    | exact ih (a + 1) (by omega) (by omega) (by rw [hw, wyI_s ⟨hab.1, h_7⟩, if_neg (fun h => h_27 h.1)])
                · refine wp_iload (pc := 106) G dX5_way_106 1 rfl ?_
                  first
                    | exact wm_iret (pc := 108) G R9 dX5_way_108 ⟨rfl, by
                        have e4 : lb (M 0) a = b := by unfold lb; rw [show (4 : Nat) = s.toNat by omega, ← hb]
                        rw [hw, wyI_s ⟨hab.1, h_7⟩, if_pos ⟨hsm.resolve_left (by omega), by rw [e4]; exact h_103⟩, e4]⟩
                    | exact absurd (show b = -1 by rw [hb, hsm.resolve_right h_27]; rfl) h_103
              · have h_27 := h_24.t h_27
                refine wp_aload_n (pc := 30) G dX5_way_30 rfl 3 rfl ?_
                refine wp_iload_n (pc := 31) G dX5_way_31 rfl 2 rfl ?_
                refine wp_iload (pc := 32) G dX5_way_32 0 rfl ?_
                refine wm_calli2 (pc := 34) G dX5_way_34 kX5_69 (ct_neighbor hg hL ha (by omega)) (by decide) (by decide) (Nat.le_of_ble_eq_true rfl) (fun z_34 M_34 h_34 => ?_)
                obtain ⟨rfl, h_34⟩ := h_34
                subst h_34
                have hnb := nbr_r (s := s) hL ha
                refine wp_istore (L' := [(6, _), (5, _), (4, _), (3, _), (0, _), (1, _)]) (pc := 37) G dX5_way_37 (by decide) rfl ?_
                refine wp_iload (pc := 39) G dX5_way_39 0 rfl ?_
                refine wp_iconst (pc := 41) G dX5_way_41 ?_
                refine wp_icmp_eq (tgt := 94) (pc := 42) G dX5_way_42 (by omega) (by omega) (by decide) (fun h_42 => ?_) (fun h_42 => ?_)
                · refine wp_iinc (L' := [(5, _), (6, _), (4, _), (3, _), (0, _), (1, _)]) (pc := 94) G dX5_way_94 1 rfl (by decide) rfl ?_
                  refine wp_goto (tgt := 16) (pc := 97) G dX5_way_97 (by decide) ?_
                  refine wp_sub (L' := [(5, _), (4, _), (3, _), (0, _), (1, _)]) [0, 2, 3, 4, 5] rfl ?_
                  first
                    | exact ih2 (s + 1) _ (by omega) (by omega) (by rw [lbI_s hs.1, ← hb]; unfold lbA; rw [if_neg (fun h => by first | exact h.1 h_42 | omega | exact h_66 h.2.2.1)]) (Or.inr h_27)
                    | exact ih2 (s + 1) _ (by omega) (by omega) (by rw [lbI_s hs.1, ← hb]; unfold lbA; rw [if_pos ⟨h_42, h_56, h_66, by omega⟩]) (Or.inr h_27)
                · have hbb : isC (M 0) (nbr (M 0) a s) := hnb.resolve_left h_42
                  have hb2 := hbb.lt hL
                  have hh1 := hL.hg hb2
                  have hh2 := hL.hg ha2
                  refine wp_aload_n (pc := 45) G dX5_way_45 rfl 4 rfl ?_
                  refine wp_iload (pc := 46) G dX5_way_46 0 rfl ?_
                  refine wm_calli1 (pc := 48) G dX5_way_48 kX5_87 (ct_height hg (by omega)) (by decide) (by decide) (Nat.le_of_ble_eq_true rfl) (fun z_48 M_48 h_48 => ?_)
                  obtain ⟨rfl, h_48⟩ := h_48
                  subst h_48
                  refine wp_aload_n (pc := 51) G dX5_way_51 rfl 4 rfl ?_
                  refine wp_iload_n (pc := 52) G dX5_way_52 rfl 3 rfl ?_
                  refine wm_calli1 (pc := 53) G dX5_way_53 kX5_87 (ct_height hg (by omega)) (by decide) (by decide) (Nat.le_of_ble_eq_true rfl) (fun z_53 M_53 h_53 => ?_)
                  obtain ⟨rfl, h_53⟩ := h_53
                  subst h_53
                  refine wp_icmp_ge (tgt := 94) (pc := 56) G dX5_way_56 (by omega) (by omega) (by decide) (fun h_56 => ?_) (fun h_56 => ?_)
                  · refine wp_iinc (L' := [(5, _), (6, _), (4, _), (3, _), (0, _), (1, _)]) (pc := 94) G dX5_way_94 1 rfl (by decide) rfl ?_
                    refine wp_goto (tgt := 16) (pc := 97) G dX5_way_97 (by decide) ?_
                    refine wp_sub (L' := [(5, _), (4, _), (3, _), (0, _), (1, _)]) [0, 2, 3, 4, 5] rfl ?_
                    first
                      | exact ih2 (s + 1) _ (by omega) (by omega) (by rw [lbI_s hs.1, ← hb]; unfold lbA; rw [if_neg (fun h => by first | exact h.1 h_42 | omega | exact h_66 h.2.2.1)]) (Or.inr h_27)
                      | exact ih2 (s + 1) _ (by omega) (by omega) (by rw [lbI_s hs.1, ← hb]; unfold lbA; rw [if_pos ⟨h_42, h_56, h_66, by omega⟩]) (Or.inr h_27)
                  · refine wp_aload_n (pc := 59) G dX5_way_59 rfl 4 rfl ?_
                    refine wp_iload_n (pc := 60) G dX5_way_60 rfl 3 rfl ?_
                    refine wp_iload (pc := 61) G dX5_way_61 0 rfl ?_
                    refine wm_calli2 (pc := 63) G dX5_way_63 kX5_95 (ct_runs hg hL ha hbb) (by decide) (by decide) (Nat.le_of_ble_eq_true rfl) (fun z_63 M_63 h_63 => ?_)
                    obtain ⟨rfl, h_63⟩ := h_63
                    refine wp_if_eq (tgt := 94) (pc := 66) G dX5_way_66 h_63.r (by decide) (fun h_66 => ?_) (fun h_66 => ?_)
                    · have h_66 := h_63.f h_66
                      refine wp_iinc (L' := [(5, _), (6, _), (4, _), (3, _), (0, _), (1, _)]) (pc := 94) G dX5_way_94 1 rfl (by decide) rfl ?_
                      refine wp_goto (tgt := 16) (pc := 97) G dX5_way_97 (by decide) ?_
                      refine wp_sub (L' := [(5, _), (4, _), (3, _), (0, _), (1, _)]) [0, 2, 3, 4, 5] rfl ?_
                      first
                        | exact ih2 (s + 1) _ (by omega) (by omega) (by rw [lbI_s hs.1, ← hb]; unfold lbA; rw [if_neg (fun h => by first | exact h.1 h_42 | omega | exact h_66 h.2.2.1)]) (Or.inr h_27)
                        | exact ih2 (s + 1) _ (by omega) (by omega) (by rw [lbI_s hs.1, ← hb]; unfold lbA; rw [if_pos ⟨h_42, h_56, h_66, by omega⟩]) (Or.inr h_27)
                    · have h_66 := h_63.t h_66
                      refine wp_iload (pc := 69) G dX5_way_69 2 rfl ?_
                      refine wp_iconst (pc := 71) G dX5_way_71 ?_
                      refine wp_icmp_eq (tgt := 90) (pc := 72) G dX5_way_72 (by omega) (by omega) (by decide) (fun h_72 => ?_) (fun h_72 => ?_)
                      · refine wp_iload (pc := 90) G dX5_way_90 0 rfl ?_
                        refine wp_istore (L' := [(4, _), (6, _), (5, _), (3, _), (0, _), (1, _)]) (pc := 92) G dX5_way_92 (by decide) rfl ?_
                        refine wp_iinc (L' := [(5, _), (4, _), (6, _), (3, _), (0, _), (1, _)]) (pc := 94) G dX5_way_94 2 rfl (by decide) rfl ?_
                        refine wp_goto (tgt := 16) (pc := 97) G dX5_way_97 (by decide) ?_
                        refine wp_sub (L' := [(5, _), (4, _), (3, _), (0, _), (1, _)]) [0, 1, 3, 4, 5] rfl ?_
                        first
                          | exact ih2 (s + 1) _ (by omega) (by omega) (by rw [lbI_s hs.1, ← hb]; unfold lbA; rw [if_neg (fun h => by first | exact h.1 h_42 | omega | exact h_66 h.2.2.1)]) (Or.inr h_27)
                          | exact ih2 (s + 1) _ (by omega) (by omega) (by rw [lbI_s hs.1, ← hb]; unfold lbA; rw [if_pos ⟨h_42, h_56, h_66, by omega⟩]) (Or.inr h_27)
                      · have hh3 := hL.hg (c := b) (by have := hL.m; omega)
                        refine wp_aload_n (pc := 75) G dX5_way_75 rfl 4 rfl ?_
                        refine wp_iload (pc := 76) G dX5_way_76 0 rfl ?_
                        refine wm_calli1 (pc := 78) G dX5_way_78 kX5_87 (ct_height hg (by omega)) (by decide) (by decide) (Nat.le_of_ble_eq_true rfl) (fun z_78 M_78 h_78 => ?_)
                        obtain ⟨rfl, h_78⟩ := h_78
                        subst h_78
                        refine wp_aload_n (pc := 81) G dX5_way_81 rfl 4 rfl ?_
                        refine wp_iload (pc := 82) G dX5_way_82 2 rfl ?_
                        refine wm_calli1 (pc := 84) G dX5_way_84 kX5_87 (ct_height hg (by omega)) (by decide) (by decide) (Nat.le_of_ble_eq_true rfl) (fun z_84 M_84 h_84 => ?_)
                        obtain ⟨rfl, h_84⟩ := h_84
                        subst h_84
                        refine wp_icmp_ge (tgt := 94) (pc := 87) G dX5_way_87 (by omega) (by omega) (by decide) (fun h_87 => ?_) (fun h_87 => ?_)
                        · refine wp_iinc (L' := [(5, _), (6, _), (4, _), (3, _), (0, _), (1, _)]) (pc := 94) G dX5_way_94 1 rfl (by decide) rfl ?_
                          refine wp_goto (tgt := 16) (pc := 97) G dX5_way_97 (by decide) ?_
                          refine wp_sub (L' := [(5, _), (4, _), (3, _), (0, _), (1, _)]) [0, 2, 3, 4, 5] rfl ?_
                          first
                            | exact ih2 (s + 1) _ (by omega) (by omega) (by rw [lbI_s hs.1, ← hb]; unfold lbA; rw [if_neg (fun h => by first | exact h.1 h_42 | omega | exact h_66 h.2.2.1)]) (Or.inr h_27)
                            | exact ih2 (s + 1) _ (by omega) (by omega) (by rw [lbI_s hs.1, ← hb]; unfold lbA; rw [if_pos ⟨h_42, h_56, h_66, by omega⟩]) (Or.inr h_27)
                        · refine wp_iload (pc := 90) G dX5_way_90 0 rfl ?_
                          refine wp_istore (L' := [(4, _), (6, _), (5, _), (3, _), (0, _), (1, _)]) (pc := 92) G dX5_way_92 (by decide) rfl ?_
                          refine wp_iinc (L' := [(5, _), (4, _), (6, _), (3, _), (0, _), (1, _)]) (pc := 94) G dX5_way_94 2 rfl (by decide) rfl ?_
                          refine wp_goto (tgt := 16) (pc := 97) G dX5_way_97 (by decide) ?_
                          refine wp_sub (L' := [(5, _), (4, _), (3, _), (0, _), (1, _)]) [0, 1, 3, 4, 5] rfl ?_
                          first
                            | exact ih2 (s + 1) _ (by omega) (by omega) (by rw [lbI_s hs.1, ← hb]; unfold lbA; rw [if_neg (fun h => by first | exact h.1 h_42 | omega | exact h_66 h.2.2.1)]) (Or.inr h_27)
                            | exact ih2 (s + 1) _ (by omega) (by omega) (by rw [lbI_s hs.1, ← hb]; unfold lbA; rw [if_pos ⟨h_42, h_56, h_66, by omega⟩]) (Or.inr h_27)
        exact inner 5 0 (-1) (by omega) (by omega) rfl (Or.inl rfl)
  refine wp_iconst (pc := 0) G dX5_way_0 ?_
  refine wp_istore_n (L' := [(3, _), (0, _), (1, _)]) (pc := 1) G dX5_way_1 rfl (by decide) rfl ?_
  exact loop 37 0 (by omega) (by omega) (by unfold way; rw [Int.sub_zero]; rfl)
