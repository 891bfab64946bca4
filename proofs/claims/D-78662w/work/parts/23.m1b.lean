/-! THE MODEL, leaves, second half -/
set_option maxRecDepth 100000
theorem isNb_ex (az : Int → Int) (a b : Int) : isNb az a b ↔ ∃ t, (0 ≤ t ∧ t < 4) ∧ nbr az a t = b := by
  unfold isNb
  constructor
  · intro h
    rcases h with h | h | h | h
    · exact ⟨0, by omega, h⟩
    · exact ⟨1, by omega, h⟩
    · exact ⟨2, by omega, h⟩
    · exact ⟨3, by omega, h⟩
  · rintro ⟨t, ht, h⟩
    rcases (show t = 0 ∨ t = 1 ∨ t = 2 ∨ t = 3 by omega) with rfl | rfl | rfl | rfl
    · exact Or.inl h
    · exact Or.inr (Or.inl h)
    · exact Or.inr (Or.inr (Or.inl h))
    · exact Or.inr (Or.inr (Or.inr h))
set_option maxHeartbeats 4000000 in
theorem ct_areNeighbors {g : GV} (hg : GOk g) {ad : Nat → Nat} {M : Nat → Int → Int} (hL : okL (M 0)) {a b : Int} (ha : isC (M 0) a) (hb : -2147483648 ≤ b ∧ b ≤ 2147483647) : CMi g ad yX5_areNeighbors cX5_areNeighbors 5 2 .boolean [iV a, iV b] M (fun z M' => M = M' ∧ isB z (isNb (M 0) a b)) := by
  refine wm_ofi hg (by decide +kernel) (Nat.le_of_ble_eq_true rfl) (fun F G R9 => ?_)
  have G : FxOk g F cX5_areNeighbors RX5 5 2 := G
  refine wp_loc (L' := [(0, _), (1, _), (2, _)]) rfl ?_
  have loop : ∀ (n : Nat) (s r : Int), (0 ≤ s ∧ s ≤ 4) → (5 ≤ s + n) → (isB r (∃ t, (0 ≤ t ∧ t < s) ∧ nbr (M 0) a t = b)) → Wp g F [MB g ad M] 0 0 5 [(4, iV s), (3, iV r), (0, .ref (ad 25)), (1, iV a), (2, iV b)] [] := by
    intro n
    induction n with
    | zero =>
      intro s r hs hn hr
      exfalso
      omega
    | succ n ih =>
      intro s r hs hn hr
      have hm := hL.m
      have ha2 := ha.lt hL
      refine wp_iload (pc := 5) G dX5_areNeighbors_5 0 rfl ?_
      refine wp_iconst (pc := 7) G dX5_areNeighbors_7 ?_
      refine wp_icmp_ge (tgt := 38) (pc := 8) G dX5_areNeighbors_8 (by omega) (by omega) (by decide) (fun h_8 => ?_) (fun h_8 => ?_)
      · refine wp_iload_n (pc := 38) G dX5_areNeighbors_38 rfl 1 rfl ?_
        exact wm_zret (pc := 39) G R9 dX5_areNeighbors_39 hr.z ⟨rfl, hr.iff (by rw [isNb_ex, show s = 4 by omega])⟩
      · refine wp_iload_n (pc := 11) G dX5_areNeighbors_11 rfl 1 rfl ?_
        refine wp_if_ne (tgt := 26) (pc := 12) G dX5_areNeighbors_12 hr.r (by decide) (fun h_12 => ?_) (fun h_12 => ?_)
        · have h_12 := hr.t h_12
          refine wp_iconst (pc := 26) G dX5_areNeighbors_26 ?_
          refine wp_goto (tgt := 31) (pc := 27) G dX5_areNeighbors_27 (by decide) ?_
          refine wp_istore_n (L' := [(3, _), (4, _), (0, _), (1, _), (2, _)]) (pc := 31) G dX5_areNeighbors_31 rfl (by decide) rfl ?_
          refine wp_iinc (L' := [(4, _), (3, _), (0, _), (1, _), (2, _)]) (pc := 32) G dX5_areNeighbors_32 1 rfl (by decide) rfl ?_
          refine wp_goto (tgt := 5) (pc := 35) G dX5_areNeighbors_35 (by decide) ?_
          first
            | exact ih (s + 1) 1 (by omega) (by omega) (isB.i1 ⟨s, by omega, h_23⟩)
            | exact ih (s + 1) 1 (by omega) (by omega) (isB.i1 (by obtain ⟨t, ht, e⟩ := h_12; exact ⟨t, by omega, e⟩))
            | exact ih (s + 1) 0 (by omega) (by omega) (isB.i0 (by
                rintro ⟨t, ht, e⟩
                rcases Int.lt_or_le t s with h9 | h9
                · exact h_12 ⟨t, by omega, e⟩
                · rw [show t = s by omega] at e; exact h_23 e))
        · have h_12 := hr.f h_12
          refine wp_aload_n (pc := 15) G dX5_areNeighbors_15 rfl 2 rfl ?_
          refine wp_iload_n (pc := 16) G dX5_areNeighbors_16 rfl 3 rfl ?_
          refine wp_iload (pc := 17) G dX5_areNeighbors_17 0 rfl ?_
          refine wm_calli2 (pc := 19) G dX5_areNeighbors_19 kX5_69 (ct_neighbor hg hL ha (by omega)) (by decide) (by decide) (Nat.le_of_ble_eq_true rfl) (fun z_19 M_19 h_19 => ?_)
          obtain ⟨rfl, h_19⟩ := h_19
          subst h_19
          have hnb := nbr_r (s := s) hL ha
          refine wp_iload_n (pc := 22) G dX5_areNeighbors_22 rfl 4 rfl ?_
          refine wp_icmp_ne (tgt := 30) (pc := 23) G dX5_areNeighbors_23 (by omega) hb (by decide) (fun h_23 => ?_) (fun h_23 => ?_)
          · refine wp_iconst (pc := 30) G dX5_areNeighbors_30 ?_
            refine wp_istore_n (L' := [(3, _), (4, _), (0, _), (1, _), (2, _)]) (pc := 31) G dX5_areNeighbors_31 rfl (by decide) rfl ?_
            refine wp_iinc (L' := [(4, _), (3, _), (0, _), (1, _), (2, _)]) (pc := 32) G dX5_areNeighbors_32 1 rfl (by decide) rfl ?_
            refine wp_goto (tgt := 5) (pc := 35) G dX5_areNeighbors_35 (by decide) ?_
            first
              | exact ih (s + 1) 1 (by omega) (by omega) (isB.i1 ⟨s, by omega, h_23⟩)
              | exact ih (s + 1) 1 (by omega) (by omega) (isB.i1 (by obtain ⟨t, ht, e⟩ := h_12; exact ⟨t, by omega, e⟩))
              | exact ih (s + 1) 0 (by omega) (by omega) (isB.i0 (by
                  rintro ⟨t, ht, e⟩
                  rcases Int.lt_or_le t s with h9 | h9
                  · exact h_12 ⟨t, by omega, e⟩
                  · rw [show t = s by omega] at e; exact h_23 e))
          · refine wp_iconst (pc := 26) G dX5_areNeighbors_26 ?_
            refine wp_goto (tgt := 31) (pc := 27) G dX5_areNeighbors_27 (by decide) ?_
            refine wp_istore_n (L' := [(3, _), (4, _), (0, _), (1, _), (2, _)]) (pc := 31) G dX5_areNeighbors_31 rfl (by decide) rfl ?_
            refine wp_iinc (L' := [(4, _), (3, _), (0, _), (1, _), (2, _)]) (pc := 32) G dX5_areNeighbors_32 1 rfl (by decide) rfl ?_
            refine wp_goto (tgt := 5) (pc := 35) G dX5_areNeighbors_35 (by decide) ?_
            first
              | exact ih (s + 1) 1 (by omega) (by omega) (isB.i1 ⟨s, by omega, h_23⟩)
              | exact ih (s + 1) 1 (by omega) (by omega) (isB.i1 (by obtain ⟨t, ht, e⟩ := h_12; exact ⟨t, by omega, e⟩))
              | exact ih (s + 1) 0 (by omega) (by omega) (isB.i0 (by
                  rintro ⟨t, ht, e⟩
                  rcases Int.lt_or_le t s with h9 | h9
                  · exact h_12 ⟨t, by omega, e⟩
                  · rw [show t = s by omega] at e; exact h_23 e))
  refine wp_iconst (pc := 0) G dX5_areNeighbors_0 ?_
  refine wp_istore_n (L' := [(3, _), (0, _), (1, _), (2, _)]) (pc := 1) G dX5_areNeighbors_1 rfl (by decide) rfl ?_
  refine wp_iconst (pc := 2) G dX5_areNeighbors_2 ?_
  refine wp_istore (L' := [(4, _), (3, _), (0, _), (1, _), (2, _)]) (pc := 3) G dX5_areNeighbors_3 (by decide) rfl ?_
  exact loop 5 0 0 (by omega) (by omega) (isB.i0 (by rintro ⟨t, ht, -⟩; omega))
set_option maxHeartbeats 4000000 in
theorem ct_isPair {g : GV} (hg : GOk g) {ad : Nat → Nat} {M : Nat → Int → Int} (hL : okL (M 0)) {a b : Int} (ha : -2147483648 ≤ a ∧ a ≤ 2147483647) (hb : -2147483648 ≤ b ∧ b ≤ 2147483647) : CMi g ad yX5_isPair cX5_isPair 3 3 .boolean [iV a, iV b] M (fun z M' => M = M' ∧ isB z (isC (M 0) a ∧ isC (M 0) b ∧ isNb (M 0) a b)) := by
  refine wm_ofi hg (by decide +kernel) (Nat.le_of_ble_eq_true rfl) (fun F G R9 => ?_)
  have G : FxOk g F cX5_isPair RX5 3 3 := G
  refine wp_loc (L' := [(0, _), (1, _), (2, _)]) rfl ?_
  refine wp_aload_n (pc := 0) G dX5_isPair_0 rfl 0 rfl ?_
  refine wp_iload_n (pc := 1) G dX5_isPair_1 rfl 1 rfl ?_
  refine wm_calli1 (pc := 2) G dX5_isPair_2 kX5_73 (ct_isCell hg hL ha) (by decide) (by decide) (Nat.le_of_ble_eq_true rfl) (fun z_2 M_2 h_2 => ?_)
  obtain ⟨rfl, h_2⟩ := h_2
  refine wp_if_eq (tgt := 29) (pc := 5) G dX5_isPair_5 h_2.r (by decide) (fun h_5 => ?_) (fun h_5 => ?_)
  · have h_5 := h_2.f h_5
    refine wp_iconst (pc := 29) G dX5_isPair_29 ?_
    first | exact wm_zret (pc := 30) G R9 dX5_isPair_30 (by decide) ⟨rfl, isB.i1 ⟨h_5, h_13, h_22⟩⟩ | exact wm_zret (pc := 30) G R9 dX5_isPair_30 (by decide) ⟨rfl, isB.i0 (fun h => by first | exact h_5 h.1 | exact h_13 h.2.1 | exact h_22 h.2.2)⟩
  · have h_5 := h_2.t h_5
    refine wp_aload_n (pc := 8) G dX5_isPair_8 rfl 0 rfl ?_
    refine wp_iload_n (pc := 9) G dX5_isPair_9 rfl 2 rfl ?_
    refine wm_calli1 (pc := 10) G dX5_isPair_10 kX5_73 (ct_isCell hg hL hb) (by decide) (by decide) (Nat.le_of_ble_eq_true rfl) (fun z_10 M_10 h_10 => ?_)
    obtain ⟨rfl, h_10⟩ := h_10
    refine wp_if_eq (tgt := 29) (pc := 13) G dX5_isPair_13 h_10.r (by decide) (fun h_13 => ?_) (fun h_13 => ?_)
    · have h_13 := h_10.f h_13
      refine wp_iconst (pc := 29) G dX5_isPair_29 ?_
      first | exact wm_zret (pc := 30) G R9 dX5_isPair_30 (by decide) ⟨rfl, isB.i1 ⟨h_5, h_13, h_22⟩⟩ | exact wm_zret (pc := 30) G R9 dX5_isPair_30 (by decide) ⟨rfl, isB.i0 (fun h => by first | exact h_5 h.1 | exact h_13 h.2.1 | exact h_22 h.2.2)⟩
    · have h_13 := h_10.t h_13
      refine wp_aload_n (pc := 16) G dX5_isPair_16 rfl 0 rfl ?_
      refine wp_iload_n (pc := 17) G dX5_isPair_17 rfl 1 rfl ?_
      refine wp_iload_n (pc := 18) G dX5_isPair_18 rfl 2 rfl ?_
      refine wm_calli2 (pc := 19) G dX5_isPair_19 kX5_77 (ct_areNeighbors hg hL h_5 hb) (by decide) (by decide) (Nat.le_of_ble_eq_true rfl) (fun z_19 M_19 h_19 => ?_)
      obtain ⟨rfl, h_19⟩ := h_19
      refine wp_if_eq (tgt := 29) (pc := 22) G dX5_isPair_22 h_19.r (by decide) (fun h_22 => ?_) (fun h_22 => ?_)
      · have h_22 := h_19.f h_22
        refine wp_iconst (pc := 29) G dX5_isPair_29 ?_
        first | exact wm_zret (pc := 30) G R9 dX5_isPair_30 (by decide) ⟨rfl, isB.i1 ⟨h_5, h_13, h_22⟩⟩ | exact wm_zret (pc := 30) G R9 dX5_isPair_30 (by decide) ⟨rfl, isB.i0 (fun h => by first | exact h_5 h.1 | exact h_13 h.2.1 | exact h_22 h.2.2)⟩
      · have h_22 := h_19.t h_22
        refine wp_iconst (pc := 25) G dX5_isPair_25 ?_
        refine wp_goto (tgt := 30) (pc := 26) G dX5_isPair_26 (by decide) ?_
        first | exact wm_zret (pc := 30) G R9 dX5_isPair_30 (by decide) ⟨rfl, isB.i1 ⟨h_5, h_13, h_22⟩⟩ | exact wm_zret (pc := 30) G R9 dX5_isPair_30 (by decide) ⟨rfl, isB.i0 (fun h => by first | exact h_5 h.1 | exact h_13 h.2.1 | exact h_22 h.2.2)⟩
set_option maxHeartbeats 4000000 in
theorem ct_gateAt {g : GV} (hg : GOk g) {ad : Nat → Nat} {M : Nat → Int → Int} (hL : okL (M 0)) {a b : Int} (ha : isC (M 0) a) (hb : isC (M 0) b) : CMi g ad yX5_gateAt cX5_gateAt 5 2 .int [iV a, iV b] M (fun z M' => M = M' ∧ z = gat (M 0) a b) := by
  have hm := hL.m
  have ha2 := ha.lt hL
  have hb2 := hb.lt hL
  refine wm_ofi hg (by decide +kernel) (Nat.le_of_ble_eq_true rfl) (fun F G R9 => ?_)
  have G : FxOk g F cX5_gateAt RX5 5 2 := G
  refine wp_loc (L' := [(0, _), (1, _), (2, _)]) rfl ?_
  refine wp_iload_n (pc := 0) G dX5_gateAt_0 rfl 1 rfl ?_
  refine wp_iload_n (pc := 1) G dX5_gateAt_1 rfl 2 rfl ?_
  refine wp_icmp_ge (tgt := 9) (pc := 2) G dX5_gateAt_2 (by omega) (by omega) (by decide) (fun h_2 => ?_) (fun h_2 => ?_)
  · refine wp_iload_n (pc := 9) G dX5_gateAt_9 rfl 2 rfl ?_
    refine wp_istore_n (L' := [(3, _), (0, _), (1, _), (2, _)]) (pc := 10) G dX5_gateAt_10 rfl (by decide) rfl ?_
    refine wp_iload_n (pc := 11) G dX5_gateAt_11 rfl 2 rfl ?_
    refine wp_iload_n (pc := 12) G dX5_gateAt_12 rfl 3 rfl ?_
    refine wp_icmp_ge (tgt := 20) (pc := 13) G dX5_gateAt_13 (by omega) (by omega) (by decide) (fun h_13 => ?_) (fun h_13 => ?_)
    · refine wp_iload_n (pc := 20) G dX5_gateAt_20 rfl 2 rfl ?_
      refine wp_istore (L' := [(4, _), (3, _), (0, _), (1, _), (2, _)]) (pc := 21) G dX5_gateAt_21 (by decide) rfl ?_
      refine wp_iload (pc := 23) G dX5_gateAt_23 0 rfl ?_
      refine wp_aload_n (pc := 25) G dX5_gateAt_25 rfl 2 rfl ?_
      refine wp_iload_n (pc := 26) G dX5_gateAt_26 rfl 1 rfl ?_
      refine wp_iconst (pc := 27) G dX5_gateAt_27 ?_
      refine wm_calli2 (pc := 28) G dX5_gateAt_28 kX5_69 (ct_neighbor hg hL (by first | exact ha | exact hb) (by omega)) (by decide) (by decide) (Nat.le_of_ble_eq_true rfl) (fun z_28 M_28 h_28 => ?_)
      obtain ⟨rfl, h_28⟩ := h_28
      subst h_28
      have hnb := nbr_r (s := 2) hL ha
      have hnb2 := nbr_r (s := 2) hL hb
      refine wp_icmp_ne (tgt := 41) (pc := 31) G dX5_gateAt_31 (by omega) (by omega) (by decide) (fun h_31 => ?_) (fun h_31 => ?_)
      · refine wp_bipush (pc := 41) G dX5_gateAt_41 (by decide) ?_
        refine wp_iload_n (pc := 43) G dX5_gateAt_43 rfl 1 rfl ?_
        refine wp_iadd (pc := 44) G dX5_gateAt_44 ?_
        first
          | exact absurd h_13 (by omega)
          | exact wm_iret (pc := 45) G R9 dX5_gateAt_45 ⟨rfl, by unfold gat; first | rw [if_pos h_2, if_pos h_2, if_pos h_31] | rw [if_pos h_2, if_pos h_2, if_neg h_31] | rw [if_neg (show ¬ a < b by omega), if_neg (show ¬ a < b by omega), if_pos h_31] | rw [if_neg (show ¬ a < b by omega), if_neg (show ¬ a < b by omega), if_neg h_31]⟩
      · refine wp_bipush (pc := 34) G dX5_gateAt_34 (by decide) ?_
        refine wp_iload_n (pc := 36) G dX5_gateAt_36 rfl 1 rfl ?_
        refine wp_iadd (pc := 37) G dX5_gateAt_37 ?_
        refine wp_goto (tgt := 45) (pc := 38) G dX5_gateAt_38 (by decide) ?_
        first
          | exact absurd h_13 (by omega)
          | exact wm_iret (pc := 45) G R9 dX5_gateAt_45 ⟨rfl, by unfold gat; first | rw [if_pos h_2, if_pos h_2, if_pos h_31] | rw [if_pos h_2, if_pos h_2, if_neg h_31] | rw [if_neg (show ¬ a < b by omega), if_neg (show ¬ a < b by omega), if_pos h_31] | rw [if_neg (show ¬ a < b by omega), if_neg (show ¬ a < b by omega), if_neg h_31]⟩
    · refine wp_iload_n (pc := 16) G dX5_gateAt_16 rfl 3 rfl ?_
      refine wp_goto (tgt := 21) (pc := 17) G dX5_gateAt_17 (by decide) ?_
      refine wp_istore (L' := [(4, _), (3, _), (0, _), (1, _), (2, _)]) (pc := 21) G dX5_gateAt_21 (by decide) rfl ?_
      refine wp_iload (pc := 23) G dX5_gateAt_23 0 rfl ?_
      refine wp_aload_n (pc := 25) G dX5_gateAt_25 rfl 2 rfl ?_
      refine wp_iload_n (pc := 26) G dX5_gateAt_26 rfl 1 rfl ?_
      refine wp_iconst (pc := 27) G dX5_gateAt_27 ?_
      refine wm_calli2 (pc := 28) G dX5_gateAt_28 kX5_69 (ct_neighbor hg hL (by first | exact ha | exact hb) (by omega)) (by decide) (by decide) (Nat.le_of_ble_eq_true rfl) (fun z_28 M_28 h_28 => ?_)
      obtain ⟨rfl, h_28⟩ := h_28
      subst h_28
      have hnb := nbr_r (s := 2) hL ha
      have hnb2 := nbr_r (s := 2) hL hb
      refine wp_icmp_ne (tgt := 41) (pc := 31) G dX5_gateAt_31 (by omega) (by omega) (by decide) (fun h_31 => ?_) (fun h_31 => ?_)
      · refine wp_bipush (pc := 41) G dX5_gateAt_41 (by decide) ?_
        refine wp_iload_n (pc := 43) G dX5_gateAt_43 rfl 1 rfl ?_
        refine wp_iadd (pc := 44) G dX5_gateAt_44 ?_
        first
          | exact absurd h_13 (by omega)
          | exact wm_iret (pc := 45) G R9 dX5_gateAt_45 ⟨rfl, by unfold gat; first | rw [if_pos h_2, if_pos h_2, if_pos h_31] | rw [if_pos h_2, if_pos h_2, if_neg h_31] | rw [if_neg (show ¬ a < b by omega), if_neg (show ¬ a < b by omega), if_pos h_31] | rw [if_neg (show ¬ a < b by omega), if_neg (show ¬ a < b by omega), if_neg h_31]⟩
      · refine wp_bipush (pc := 34) G dX5_gateAt_34 (by decide) ?_
        refine wp_iload_n (pc := 36) G dX5_gateAt_36 rfl 1 rfl ?_
        refine wp_iadd (pc := 37) G dX5_gateAt_37 ?_
        refine wp_goto (tgt := 45) (pc := 38) G dX5_gateAt_38 (by decide) ?_
        first
          | exact absurd h_13 (by omega)
          | exact wm_iret (pc := 45) G R9 dX5_gateAt_45 ⟨rfl, by unfold gat; first | rw [if_pos h_2, if_pos h_2, if_pos h_31] | rw [if_pos h_2, if_pos h_2, if_neg h_31] | rw [if_neg (show ¬ a < b by omega), if_neg (show ¬ a < b by omega), if_pos h_31] | rw [if_neg (show ¬ a < b by omega), if_neg (show ¬ a < b by omega), if_neg h_31]⟩
  · refine wp_iload_n (pc := 5) G dX5_gateAt_5 rfl 1 rfl ?_
    refine wp_goto (tgt := 10) (pc := 6) G dX5_gateAt_6 (by decide) ?_
    refine wp_istore_n (L' := [(3, _), (0, _), (1, _), (2, _)]) (pc := 10) G dX5_gateAt_10 rfl (by decide) rfl ?_
    refine wp_iload_n (pc := 11) G dX5_gateAt_11 rfl 2 rfl ?_
    refine wp_iload_n (pc := 12) G dX5_gateAt_12 rfl 3 rfl ?_
    refine wp_icmp_ge (tgt := 20) (pc := 13) G dX5_gateAt_13 (by omega) (by omega) (by decide) (fun h_13 => ?_) (fun h_13 => ?_)
    · refine wp_iload_n (pc := 20) G dX5_gateAt_20 rfl 2 rfl ?_
      refine wp_istore (L' := [(4, _), (3, _), (0, _), (1, _), (2, _)]) (pc := 21) G dX5_gateAt_21 (by decide) rfl ?_
      refine wp_iload (pc := 23) G dX5_gateAt_23 0 rfl ?_
      refine wp_aload_n (pc := 25) G dX5_gateAt_25 rfl 2 rfl ?_
      refine wp_iload_n (pc := 26) G dX5_gateAt_26 rfl 1 rfl ?_
      refine wp_iconst (pc := 27) G dX5_gateAt_27 ?_
      refine wm_calli2 (pc := 28) G dX5_gateAt_28 kX5_69 (ct_neighbor hg hL (by first | exact ha | exact hb) (by omega)) (by decide) (by decide) (Nat.le_of_ble_eq_true rfl) (fun z_28 M_28 h_28 => ?_)
      obtain ⟨rfl, h_28⟩ := h_28
      subst h_28
      have hnb := nbr_r (s := 2) hL ha
      have hnb2 := nbr_r (s := 2) hL hb
      refine wp_icmp_ne (tgt := 41) (pc := 31) G dX5_gateAt_31 (by omega) (by omega) (by decide) (fun h_31 => ?_) (fun h_31 => ?_)
      · refine wp_bipush (pc := 41) G dX5_gateAt_41 (by decide) ?_
        refine wp_iload_n (pc := 43) G dX5_gateAt_43 rfl 1 rfl ?_
        refine wp_iadd (pc := 44) G dX5_gateAt_44 ?_
        first
          | exact absurd h_13 (by omega)
          | exact wm_iret (pc := 45) G R9 dX5_gateAt_45 ⟨rfl, by unfold gat; first | rw [if_pos h_2, if_pos h_2, if_pos h_31] | rw [if_pos h_2, if_pos h_2, if_neg h_31] | rw [if_neg (show ¬ a < b by omega), if_neg (show ¬ a < b by omega), if_pos h_31] | rw [if_neg (show ¬ a < b by omega), if_neg (show ¬ a < b by omega), if_neg h_31]⟩
      · refine wp_bipush (pc := 34) G dX5_gateAt_34 (by decide) ?_
        refine wp_iload_n (pc := 36) G dX5_gateAt_36 rfl 1 rfl ?_
        refine wp_iadd (pc := 37) G dX5_gateAt_37 ?_
        refine wp_goto (tgt := 45) (pc := 38) G dX5_gateAt_38 (by decide) ?_
        first
          | exact absurd h_13 (by omega)
          | exact wm_iret (pc := 45) G R9 dX5_gateAt_45 ⟨rfl, by unfold gat; first | rw [if_pos h_2, if_pos h_2, if_pos h_31] | rw [if_pos h_2, if_pos h_2, if_neg h_31] | rw [if_neg (show ¬ a < b by omega), if_neg (show ¬ a < b by omega), if_pos h_31] | rw [if_neg (show ¬ a < b by omega), if_neg (show ¬ a < b by omega), if_neg h_31]⟩
    · refine wp_iload_n (pc := 16) G dX5_gateAt_16 rfl 3 rfl ?_
      refine wp_goto (tgt := 21) (pc := 17) G dX5_gateAt_17 (by decide) ?_
      refine wp_istore (L' := [(4, _), (3, _), (0, _), (1, _), (2, _)]) (pc := 21) G dX5_gateAt_21 (by decide) rfl ?_
      refine wp_iload (pc := 23) G dX5_gateAt_23 0 rfl ?_
      refine wp_aload_n (pc := 25) G dX5_gateAt_25 rfl 2 rfl ?_
      refine wp_iload_n (pc := 26) G dX5_gateAt_26 rfl 1 rfl ?_
      refine wp_iconst (pc := 27) G dX5_gateAt_27 ?_
      refine wm_calli2 (pc := 28) G dX5_gateAt_28 kX5_69 (ct_neighbor hg hL (by first | exact ha | exact hb) (by omega)) (by decide) (by decide) (Nat.le_of_ble_eq_true rfl) (fun z_28 M_28 h_28 => ?_)
      obtain ⟨rfl, h_28⟩ := h_28
      subst h_28
      have hnb := nbr_r (s := 2) hL ha
      have hnb2 := nbr_r (s := 2) hL hb
      refine wp_icmp_ne (tgt := 41) (pc := 31) G dX5_gateAt_31 (by omega) (by omega) (by decide) (fun h_31 => ?_) (fun h_31 => ?_)
      · refine wp_bipush (pc := 41) G dX5_gateAt_41 (by decide) ?_
        refine wp_iload_n (pc := 43) G dX5_gateAt_43 rfl 1 rfl ?_
        refine wp_iadd (pc := 44) G dX5_gateAt_44 ?_
        first
          | exact absurd h_13 (by omega)
          | exact wm_iret (pc := 45) G R9 dX5_gateAt_45 ⟨rfl, by unfold gat; first | rw [if_pos h_2, if_pos h_2, if_pos h_31] | rw [if_pos h_2, if_pos h_2, if_neg h_31] | rw [if_neg (show ¬ a < b by omega), if_neg (show ¬ a < b by omega), if_pos h_31] | rw [if_neg (show ¬ a < b by omega), if_neg (show ¬ a < b by omega), if_neg h_31]⟩
      · refine wp_bipush (pc := 34) G dX5_gateAt_34 (by decide) ?_
        refine wp_iload_n (pc := 36) G dX5_gateAt_36 rfl 1 rfl ?_
        refine wp_iadd (pc := 37) G dX5_gateAt_37 ?_
        refine wp_goto (tgt := 45) (pc := 38) G dX5_gateAt_38 (by decide) ?_
        first
          | exact absurd h_13 (by omega)
          | exact wm_iret (pc := 45) G R9 dX5_gateAt_45 ⟨rfl, by unfold gat; first | rw [if_pos h_2, if_pos h_2, if_pos h_31] | rw [if_pos h_2, if_pos h_2, if_neg h_31] | rw [if_neg (show ¬ a < b by omega), if_neg (show ¬ a < b by omega), if_pos h_31] | rw [if_neg (show ¬ a < b by omega), if_neg (show ¬ a < b by omega), if_neg h_31]⟩
set_option maxHeartbeats 4000000 in
theorem ct_threshold {g : GV} (hg : GOk g) {ad : Nat → Nat} {M : Nat → Int → Int} (hL : okL (M 0)) {a b : Int} (ha : isC (M 0) a) (hb : isC (M 0) b) : CMi g ad yX5_threshold cX5_threshold 7 3 .int [iV a, iV b] M (fun z M' => M = M' ∧ z = thr (M 0) a b) := by
  have hm := hL.m
  have ha2 := ha.lt hL
  have hb2 := hb.lt hL
  have e1 := hL.hg ha2
  have e2 := hL.hg hb2
  unfold hgt at e1 e2
  have e3 := gat_r hL ha hb
  have e4 := hL.gt e3
  refine wm_ofi hg (by decide +kernel) (Nat.le_of_ble_eq_true rfl) (fun F G R9 => ?_)
  have G : FxOk g F cX5_threshold RX5 7 3 := G
  refine wp_loc (L' := [(0, _), (1, _), (2, _)]) rfl ?_
  refine wp_aload_n (pc := 0) G dX5_threshold_0 rfl 0 rfl ?_
  refine wm_get_0 (pc := 1) G dX5_threshold_1 fX5_7_4 ?_
  refine wp_bipush (pc := 4) G dX5_threshold_4 (by decide) ?_
  refine wp_iload_n (pc := 6) G dX5_threshold_6 rfl 1 rfl ?_
  refine wp_iadd (pc := 7) G dX5_threshold_7 ?_
  refine wm_ald_0 (pc := 8) G dX5_threshold_8 (by omega) ?_
  refine wp_aload_n (pc := 9) G dX5_threshold_9 rfl 0 rfl ?_
  refine wm_get_0 (pc := 10) G dX5_threshold_10 fX5_7_4 ?_
  refine wp_bipush (pc := 13) G dX5_threshold_13 (by decide) ?_
  refine wp_iload_n (pc := 15) G dX5_threshold_15 rfl 2 rfl ?_
  refine wp_iadd (pc := 16) G dX5_threshold_16 ?_
  refine wm_ald_0 (pc := 17) G dX5_threshold_17 (by omega) ?_
  refine wp_lcmp_le (tgt := 34) (pc := 18) G dX5_threshold_18 dX5_threshold_19 (by omega) (by omega) (by decide) (fun h_18 => ?_) (fun h_18 => ?_)
  · refine wp_aload_n (pc := 34) G dX5_threshold_34 rfl 0 rfl ?_
    refine wm_get_0 (pc := 35) G dX5_threshold_35 fX5_7_4 ?_
    refine wp_bipush (pc := 38) G dX5_threshold_38 (by decide) ?_
    refine wp_iload_n (pc := 40) G dX5_threshold_40 rfl 2 rfl ?_
    refine wp_iadd (pc := 41) G dX5_threshold_41 ?_
    refine wm_ald_0 (pc := 42) G dX5_threshold_42 (by omega) ?_
    refine wp_lstore_n (L' := [(3, _), (0, _), (1, _), (2, _)]) (pc := 43) G dX5_threshold_43 rfl (by decide) rfl ?_
    refine wp_aload_n (pc := 44) G dX5_threshold_44 rfl 1 rfl ?_
    refine wm_get_0 (pc := 45) G dX5_threshold_45 fX5_7_4 ?_
    refine wp_aload_n (pc := 48) G dX5_threshold_48 rfl 1 rfl ?_
    refine wp_iload_n (pc := 49) G dX5_threshold_49 rfl 2 rfl ?_
    refine wp_iload_n (pc := 50) G dX5_threshold_50 rfl 3 rfl ?_
    refine wm_calli2 (pc := 51) G dX5_threshold_51 kX5_81 (ct_gateAt hg hL ha hb) (by decide) (by decide) (Nat.le_of_ble_eq_true rfl) (fun z_51 M_51 h_51 => ?_)
    obtain ⟨rfl, h_51⟩ := h_51
    subst h_51
    refine wm_ald_0 (pc := 54) G dX5_threshold_54 (by omega) ?_
    refine wp_lstore (L' := [(5, _), (3, _), (0, _), (1, _), (2, _)]) (pc := 55) G dX5_threshold_55 (by decide) rfl ?_
    refine wp_lload (pc := 57) G dX5_threshold_57 0 rfl ?_
    refine wp_lload_n (pc := 59) G dX5_threshold_59 rfl 1 rfl ?_
    refine wp_lcmp_le (tgt := 69) (pc := 60) G dX5_threshold_60 dX5_threshold_61 (by omega) (by omega) (by decide) (fun h_60 => ?_) (fun h_60 => ?_)
    · refine wp_lload_n (pc := 69) G dX5_threshold_69 rfl 1 rfl ?_
      refine wp_l2i (pc := 70) G dX5_threshold_70 ?_
      exact wm_iret (pc := 71) G R9 dX5_threshold_71 ⟨rfl, by unfold thr mx hgt; first | rw [if_pos h_18, if_pos h_60] | rw [if_pos h_18, if_neg (Int.not_lt.mpr h_60)] | rw [if_neg (Int.not_lt.mpr h_18), if_pos h_60] | rw [if_neg (Int.not_lt.mpr h_18), if_neg (Int.not_lt.mpr h_60)]⟩
    · refine wp_lload (pc := 64) G dX5_threshold_64 0 rfl ?_
      refine wp_goto (tgt := 70) (pc := 66) G dX5_threshold_66 (by decide) ?_
      refine wp_l2i (pc := 70) G dX5_threshold_70 ?_
      exact wm_iret (pc := 71) G R9 dX5_threshold_71 ⟨rfl, by unfold thr mx hgt; first | rw [if_pos h_18, if_pos h_60] | rw [if_pos h_18, if_neg (Int.not_lt.mpr h_60)] | rw [if_neg (Int.not_lt.mpr h_18), if_pos h_60] | rw [if_neg (Int.not_lt.mpr h_18), if_neg (Int.not_lt.mpr h_60)]⟩
  · refine wp_aload_n (pc := 22) G dX5_threshold_22 rfl 0 rfl ?_
    refine wm_get_0 (pc := 23) G dX5_threshold_23 fX5_7_4 ?_
    refine wp_bipush (pc := 26) G dX5_threshold_26 (by decide) ?_
    refine wp_iload_n (pc := 28) G dX5_threshold_28 rfl 1 rfl ?_
    refine wp_iadd (pc := 29) G dX5_threshold_29 ?_
    refine wm_ald_0 (pc := 30) G dX5_threshold_30 (by omega) ?_
    refine wp_goto (tgt := 43) (pc := 31) G dX5_threshold_31 (by decide) ?_
    refine wp_lstore_n (L' := [(3, _), (0, _), (1, _), (2, _)]) (pc := 43) G dX5_threshold_43 rfl (by decide) rfl ?_
    refine wp_aload_n (pc := 44) G dX5_threshold_44 rfl 1 rfl ?_
    refine wm_get_0 (pc := 45) G dX5_threshold_45 fX5_7_4 ?_
    refine wp_aload_n (pc := 48) G dX5_threshold_48 rfl 1 rfl ?_
    refine wp_iload_n (pc := 49) G dX5_threshold_49 rfl 2 rfl ?_
    refine wp_iload_n (pc := 50) G dX5_threshold_50 rfl 3 rfl ?_
    refine wm_calli2 (pc := 51) G dX5_threshold_51 kX5_81 (ct_gateAt hg hL ha hb) (by decide) (by decide) (Nat.le_of_ble_eq_true rfl) (fun z_51 M_51 h_51 => ?_)
    obtain ⟨rfl, h_51⟩ := h_51
    subst h_51
    refine wm_ald_0 (pc := 54) G dX5_threshold_54 (by omega) ?_
    refine wp_lstore (L' := [(5, _), (3, _), (0, _), (1, _), (2, _)]) (pc := 55) G dX5_threshold_55 (by decide) rfl ?_
    refine wp_lload (pc := 57) G dX5_threshold_57 0 rfl ?_
    refine wp_lload_n (pc := 59) G dX5_threshold_59 rfl 1 rfl ?_
    refine wp_lcmp_le (tgt := 69) (pc := 60) G dX5_threshold_60 dX5_threshold_61 (by omega) (by omega) (by decide) (fun h_60 => ?_) (fun h_60 => ?_)
    · refine wp_lload_n (pc := 69) G dX5_threshold_69 rfl 1 rfl ?_
      refine wp_l2i (pc := 70) G dX5_threshold_70 ?_
      exact wm_iret (pc := 71) G R9 dX5_threshold_71 ⟨rfl, by unfold thr mx hgt; first | rw [if_pos h_18, if_pos h_60] | rw [if_pos h_18, if_neg (Int.not_lt.mpr h_60)] | rw [if_neg (Int.not_lt.mpr h_18), if_pos h_60] | rw [if_neg (Int.not_lt.mpr h_18), if_neg (Int.not_lt.mpr h_60)]⟩
    · refine wp_lload (pc := 64) G dX5_threshold_64 0 rfl ?_
      refine wp_goto (tgt := 70) (pc := 66) G dX5_threshold_66 (by decide) ?_
      refine wp_l2i (pc := 70) G dX5_threshold_70 ?_
      exact wm_iret (pc := 71) G R9 dX5_threshold_71 ⟨rfl, by unfold thr mx hgt; first | rw [if_pos h_18, if_pos h_60] | rw [if_pos h_18, if_neg (Int.not_lt.mpr h_60)] | rw [if_neg (Int.not_lt.mpr h_18), if_pos h_60] | rw [if_neg (Int.not_lt.mpr h_18), if_neg (Int.not_lt.mpr h_60)]⟩
set_option maxHeartbeats 4000000 in
theorem ct_runs {g : GV} (hg : GOk g) {ad : Nat → Nat} {M : Nat → Int → Int} (hL : okL (M 0)) {a b : Int} (ha : isC (M 0) a) (hb : isC (M 0) b) : CMi g ad yX5_runs cX5_runs 3 4 .boolean [iV a, iV b] M (fun z M' => M = M' ∧ isB z (thr (M 0) a b = hgt (M 0) a)) := by
  have hm := hL.m
  have ha2 := ha.lt hL
  have e1 := hL.hg ha2
  have e3 := thr_r hL ha hb
  refine wm_ofi hg (by decide +kernel) (Nat.le_of_ble_eq_true rfl) (fun F G R9 => ?_)
  have G : FxOk g F cX5_runs RX5 3 4 := G
  refine wp_loc (L' := [(0, _), (1, _), (2, _)]) rfl ?_
  refine wp_aload_n (pc := 0) G dX5_runs_0 rfl 0 rfl ?_
  refine wp_iload_n (pc := 1) G dX5_runs_1 rfl 1 rfl ?_
  refine wp_iload_n (pc := 2) G dX5_runs_2 rfl 2 rfl ?_
  refine wm_calli2 (pc := 3) G dX5_runs_3 kX5_84 (ct_threshold hg hL ha hb) (by decide) (by decide) (Nat.le_of_ble_eq_true rfl) (fun z_3 M_3 h_3 => ?_)
  obtain ⟨rfl, h_3⟩ := h_3
  subst h_3
  refine wp_aload_n (pc := 6) G dX5_runs_6 rfl 0 rfl ?_
  refine wp_iload_n (pc := 7) G dX5_runs_7 rfl 1 rfl ?_
  refine wm_calli1 (pc := 8) G dX5_runs_8 kX5_87 (ct_height hg (by omega)) (by decide) (by decide) (Nat.le_of_ble_eq_true rfl) (fun z_8 M_8 h_8 => ?_)
  obtain ⟨rfl, h_8⟩ := h_8
  subst h_8
  refine wp_icmp_ne (tgt := 18) (pc := 11) G dX5_runs_11 (by omega) (by omega) (by decide) (fun h_11 => ?_) (fun h_11 => ?_)
  · refine wp_iconst (pc := 18) G dX5_runs_18 ?_
    first | exact wm_zret (pc := 19) G R9 dX5_runs_19 (by decide) ⟨rfl, isB.i1 h_11⟩ | exact wm_zret (pc := 19) G R9 dX5_runs_19 (by decide) ⟨rfl, isB.i0 h_11⟩
  · refine wp_iconst (pc := 14) G dX5_runs_14 ?_
    refine wp_goto (tgt := 19) (pc := 15) G dX5_runs_15 (by decide) ?_
    first | exact wm_zret (pc := 19) G R9 dX5_runs_19 (by decide) ⟨rfl, isB.i1 h_11⟩ | exact wm_zret (pc := 19) G R9 dX5_runs_19 (by decide) ⟨rfl, isB.i0 h_11⟩
set_option maxHeartbeats 4000000 in
theorem ct_lays {g : GV} (hg : GOk g) {ad : Nat → Nat} {M : Nat → Int → Int}  : CMv g ad yX5_lays cX5_lays 2 0 [] M (fun M' => M' = mA M 2 (M 0)) := by
  refine wm_ofv hg (by decide +kernel) (Nat.le_of_ble_eq_true rfl) (fun F G R9 => ?_)
  have G : FxOk g F cX5_lays RX5 2 0 := G
  refine wp_loc (L' := [(0, _)]) rfl ?_
  have loop : ∀ (n : Nat) (c : Int) (M1 : Nat → Int → Int), (0 ≤ c ∧ c ≤ 513) → (514 ≤ c + n) → (∀ k, k ≠ 2 → M1 k = M k) → (∀ j, 0 ≤ j ∧ j < c → M1 2 j = M 0 j) → Wp g F [MB g ad M1] 0 0 2 [(1, iV c), (0, .ref (ad 25))] [] := by
    intro n
    induction n with
    | zero =>
      intro c M1 hc hn hf hv
      exfalso
      omega
    | succ n ih =>
      intro c M1 hc hn hf hv
      refine wp_iload_n (pc := 2) G dX5_lays_2 rfl 0 rfl ?_
      refine wp_sipush (pc := 3) G dX5_lays_3 (by decide) ?_
      refine wp_icmp_ge (tgt := 27) (pc := 6) G dX5_lays_6 (by omega) (by omega) (by decide) (fun h_6 => ?_) (fun h_6 => ?_)
      · refine wm_norm (M' := mA M 2 (M 0)) (mEq_1 2 (fun k hk => by simp only [mA, if_neg hk]; exact hf k hk) rfl (fun j hj => by
          show _ = M 0 j
          exact hv j (by unfold mLen at hj; simp at hj; omega))) ?_
        exact wm_vret (pc := 27) G R9 dX5_lays_27 rfl
      · refine wp_aload_n (pc := 9) G dX5_lays_9 rfl 1 rfl ?_
        refine wm_get_2 (pc := 10) G dX5_lays_10 fX5_16_4 ?_
        refine wp_iload_n (pc := 13) G dX5_lays_13 rfl 0 rfl ?_
        refine wp_aload_n (pc := 14) G dX5_lays_14 rfl 1 rfl ?_
        refine wm_get_0 (pc := 15) G dX5_lays_15 fX5_7_4 ?_
        refine wp_iload_n (pc := 18) G dX5_lays_18 rfl 0 rfl ?_
        refine wm_ald_0 (pc := 19) G dX5_lays_19 (by omega) ?_
        refine wm_ast_2 (pc := 20) G dX5_lays_20 (by omega) ?_
        refine wp_iinc (L' := [(1, _), (0, _)]) (pc := 21) G dX5_lays_21 0 rfl (by decide) rfl ?_
        refine wp_goto (tgt := 2) (pc := 24) G dX5_lays_24 (by decide) ?_
        exact ih (c + 1) _ (by omega) (by omega) (fun k hk => by simp only [ma1, if_neg hk]; exact hf k hk) (fun j hj => by
          show fup (M1 2) c (M1 0 c) j = _
          by_cases e : j = c
          · rw [e, fup_s, hf 0 (by decide)]
          · rw [fup_n _ _ e]; exact hv j (by omega))
  refine wp_iconst (pc := 0) G dX5_lays_0 ?_
  refine wp_istore_n (L' := [(1, _), (0, _)]) (pc := 1) G dX5_lays_1 rfl (by decide) rfl ?_
  exact loop 514 0 M (by omega) (by omega) (fun _ _ => rfl) (fun j hj => by omega)
set_option maxHeartbeats 4000000 in
theorem ct_takesBack {g : GV} (hg : GOk g) {ad : Nat → Nat} {M : Nat → Int → Int}  : CMv g ad yX5_takesBack cX5_takesBack 2 0 [] M (fun M' => M' = mA M 0 (M 2)) := by
  refine wm_ofv hg (by decide +kernel) (Nat.le_of_ble_eq_true rfl) (fun F G R9 => ?_)
  have G : FxOk g F cX5_takesBack RX5 2 0 := G
  refine wp_loc (L' := [(0, _)]) rfl ?_
  have loop : ∀ (n : Nat) (c : Int) (M1 : Nat → Int → Int), (0 ≤ c ∧ c ≤ 513) → (514 ≤ c + n) → (∀ k, k ≠ 0 → M1 k = M k) → (∀ j, 0 ≤ j ∧ j < c → M1 0 j = M 2 j) → Wp g F [MB g ad M1] 0 0 2 [(1, iV c), (0, .ref (ad 25))] [] := by
    intro n
    induction n with
    | zero =>
      intro c M1 hc hn hf hv
      exfalso
      omega
    | succ n ih =>
      intro c M1 hc hn hf hv
      refine wp_iload_n (pc := 2) G dX5_takesBack_2 rfl 0 rfl ?_
      refine wp_sipush (pc := 3) G dX5_takesBack_3 (by decide) ?_
      refine wp_icmp_ge (tgt := 27) (pc := 6) G dX5_takesBack_6 (by omega) (by omega) (by decide) (fun h_6 => ?_) (fun h_6 => ?_)
      · refine wm_norm (M' := mA M 0 (M 2)) (mEq_1 0 (fun k hk => by simp only [mA, if_neg hk]; exact hf k hk) rfl (fun j hj => by
          show _ = M 2 j
          exact hv j (by unfold mLen at hj; simp at hj; omega))) ?_
        exact wm_vret (pc := 27) G R9 dX5_takesBack_27 rfl
      · refine wp_aload_n (pc := 9) G dX5_takesBack_9 rfl 1 rfl ?_
        refine wm_get_0 (pc := 10) G dX5_takesBack_10 fX5_7_4 ?_
        refine wp_iload_n (pc := 13) G dX5_takesBack_13 rfl 0 rfl ?_
        refine wp_aload_n (pc := 14) G dX5_takesBack_14 rfl 1 rfl ?_
        refine wm_get_2 (pc := 15) G dX5_takesBack_15 fX5_16_4 ?_
        refine wp_iload_n (pc := 18) G dX5_takesBack_18 rfl 0 rfl ?_
        refine wm_ald_2 (pc := 19) G dX5_takesBack_19 (by omega) ?_
        refine wm_ast_0 (pc := 20) G dX5_takesBack_20 (by omega) ?_
        refine wp_iinc (L' := [(1, _), (0, _)]) (pc := 21) G dX5_takesBack_21 0 rfl (by decide) rfl ?_
        refine wp_goto (tgt := 2) (pc := 24) G dX5_takesBack_24 (by decide) ?_
        exact ih (c + 1) _ (by omega) (by omega) (fun k hk => by simp only [ma1, if_neg hk]; exact hf k hk) (fun j hj => by
          show fup (M1 0) c (M1 2 c) j = _
          by_cases e : j = c
          · rw [e, fup_s, hf 2 (by decide)]
          · rw [fup_n _ _ e]; exact hv j (by omega))
  refine wp_iconst (pc := 0) G dX5_takesBack_0 ?_
  refine wp_istore_n (L' := [(1, _), (0, _)]) (pc := 1) G dX5_takesBack_1 rfl (by decide) rfl ?_
  exact loop 514 0 M (by omega) (by omega) (fun _ _ => rfl) (fun j hj => by omega)
