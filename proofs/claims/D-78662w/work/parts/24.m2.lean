/-! THE MODEL: lakes -/
set_option maxRecDepth 100000
section SP2B
variable {az : Int → Int}
theorem tn_s {a : Int} (ha : 0 ≤ a) : (a + 1).toNat = a.toNat + 1 := by omega
theorem ps_s {m a : Int} (ha : 0 ≤ a) : ps az m (a + 1).toNat = if inS m a then psI az m a (ps az m a.toNat) 4 else ps az m a.toNat := by
  obtain ⟨n, rfl⟩ := Int.eq_ofNat_of_zero_le ha
  rw [tn_s ha]
  rfl
theorem psI_s {m a s : Int} {t : Int × Int × Int} (hs : 0 ≤ s) : psI az m a t (s + 1).toNat = psA az m a (psI az m a t s.toNat) s := by
  obtain ⟨n, rfl⟩ := Int.eq_ofNat_of_zero_le hs
  rw [tn_s hs]
  rfl
theorem lk_s {c k : Int} (hk : 0 ≤ k) : lk az c (k + 1).toNat = if az (440 + k) = 1 ∧ inS (az (152 + k)) c then k else lk az c k.toNat := by
  obtain ⟨n, rfl⟩ := Int.eq_ofNat_of_zero_le hk
  rw [tn_s hk]
  rfl
theorem capS_s {m p k : Int} (hk : 0 ≤ k) : capS az m p (k + 1).toNat = capS az m p k.toNat + (if inS m k ∧ hgt az k < p then p - hgt az k else 0) := by
  obtain ⟨n, rfl⟩ := Int.eq_ofNat_of_zero_le hk
  rw [tn_s hk]
  rfl
theorem waS_s {k : Int} (hk : 0 ≤ k) : waS az (k + 1).toNat = waS az k.toNat + (if az (440 + k) = 1 then az (224 + k) else 0) := by
  obtain ⟨n, rfl⟩ := Int.eq_ofNat_of_zero_le hk
  rw [tn_s hk]
  rfl
theorem psA_no {m a s : Int} {t : Int × Int × Int} (h : ¬ (nbr az a s ≠ -1 ∧ ¬ inS m (nbr az a s) ∧ (t.1 = -1 ∨ thr az a (nbr az a s) < t.1))) : psA az m a t s = t := if_neg h
theorem psA_ye {m a s : Int} {t : Int × Int × Int} (h : nbr az a s ≠ -1 ∧ ¬ inS m (nbr az a s) ∧ (t.1 = -1 ∨ thr az a (nbr az a s) < t.1)) : psA az m a t s = (thr az a (nbr az a s), a, nbr az a s) := if_pos h
end SP2B

set_option maxHeartbeats 4000000 in
theorem ct_lakeOf {g : GV} (hg : GOk g) {ad : Nat → Nat} {M : Nat → Int → Int} (hK : okK (M 0)) {c : Int} (hc : 0 ≤ c ∧ c < 36) : CMi g ad yX5_lakeOf cX5_lakeOf 4 1 .int [iV c] M (fun z M' => M = M' ∧ z = lakeZ (M 0) c) := by
  refine wm_ofi hg (by decide +kernel) (Nat.le_of_ble_eq_true rfl) (fun F G R9 => ?_)
  have G : FxOk g F cX5_lakeOf RX5 4 1 := G
  refine wp_loc (L' := [(0, _), (1, _)]) rfl ?_
  have loop : ∀ (n : Nat) (k r : Int), (0 ≤ k ∧ k ≤ 72) → (73 ≤ k + n) → (r = lk (M 0) c k.toNat) → Wp g F [MB g ad M] 0 0 4 [(3, iV k), (2, iV r), (0, .ref (ad 25)), (1, iV c)] [] := by
    intro n
    induction n with
    | zero =>
      intro k r hk hn hr
      exfalso
      omega
    | succ n ih =>
      intro k r hk hn hr
      refine wp_iload_n (pc := 4) G dX5_lakeOf_4 rfl 0 rfl ?_
      refine wp_bipush (pc := 5) G dX5_lakeOf_5 (by decide) ?_
      refine wp_icmp_ge (tgt := 54) (pc := 7) G dX5_lakeOf_7 (by omega) (by omega) (by decide) (fun h_7 => ?_) (fun h_7 => ?_)
      · refine wp_iload_n (pc := 54) G dX5_lakeOf_54 rfl 1 rfl ?_
        exact wm_iret (pc := 55) G R9 dX5_lakeOf_55 ⟨rfl, by rw [hr, show k = 72 by omega]; rfl⟩
      · refine wp_aload_n (pc := 10) G dX5_lakeOf_10 rfl 2 rfl ?_
        refine wm_get_0 (pc := 11) G dX5_lakeOf_11 fX5_7_4 ?_
        refine wp_sipush (pc := 14) G dX5_lakeOf_14 (by decide) ?_
        refine wp_iload_n (pc := 17) G dX5_lakeOf_17 rfl 0 rfl ?_
        refine wp_iadd (pc := 18) G dX5_lakeOf_18 ?_
        refine wm_ald_0 (pc := 19) G dX5_lakeOf_19 (by omega) ?_
        refine wp_lconst1 (pc := 20) G dX5_lakeOf_20 ?_
        have h40 := (hK.1 k (by omega)).2.2.2.2
        refine wp_lcmp_ne (tgt := 46) (pc := 21) G dX5_lakeOf_21 dX5_lakeOf_22 (by omega) (by omega) (by decide) (fun h_21 => ?_) (fun h_21 => ?_)
        · refine wp_iload_n (pc := 46) G dX5_lakeOf_46 rfl 1 rfl ?_
          refine wp_istore_n (L' := [(2, _), (3, _), (0, _), (1, _)]) (pc := 47) G dX5_lakeOf_47 rfl (by decide) rfl ?_
          refine wp_iinc (L' := [(3, _), (2, _), (0, _), (1, _)]) (pc := 48) G dX5_lakeOf_48 1 rfl (by decide) rfl ?_
          refine wp_goto (tgt := 4) (pc := 51) G dX5_lakeOf_51 (by decide) ?_
          first
            | exact ih (k + 1) k (by omega) (by omega) (by rw [lk_s hk.1, if_pos ⟨h_21, h_39⟩])
            | exact ih (k + 1) r (by omega) (by omega) (by rw [lk_s hk.1, if_neg (fun h => h_39 h.2)]; exact hr)
            | exact ih (k + 1) r (by omega) (by omega) (by rw [lk_s hk.1, if_neg (fun h => h_21 h.1)]; exact hr)
        · refine wp_aload_n (pc := 25) G dX5_lakeOf_25 rfl 2 rfl ?_
          refine wm_get_0 (pc := 26) G dX5_lakeOf_26 fX5_7_4 ?_
          refine wp_sipush (pc := 29) G dX5_lakeOf_29 (by decide) ?_
          refine wp_iload_n (pc := 32) G dX5_lakeOf_32 rfl 0 rfl ?_
          refine wp_iadd (pc := 33) G dX5_lakeOf_33 ?_
          refine wm_ald_0 (pc := 34) G dX5_lakeOf_34 (by omega) ?_
          refine wp_iload_n (pc := 35) G dX5_lakeOf_35 rfl 3 rfl ?_
          refine ws_calli2 (pc := 36) G dX5_lakeOf_36 kX5_91 (ct_has hg (by have := (hK.1 k (by omega)).1; omega) (by omega)) (by decide) (by decide) (Nat.le_of_ble_eq_true rfl) (fun z_36 h_36 => ?_)
          refine wp_if_eq (tgt := 46) (pc := 39) G dX5_lakeOf_39 h_36.r (by decide) (fun h_39 => ?_) (fun h_39 => ?_)
          · have h_39 := h_36.f h_39
            refine wp_iload_n (pc := 46) G dX5_lakeOf_46 rfl 1 rfl ?_
            refine wp_istore_n (L' := [(2, _), (3, _), (0, _), (1, _)]) (pc := 47) G dX5_lakeOf_47 rfl (by decide) rfl ?_
            refine wp_iinc (L' := [(3, _), (2, _), (0, _), (1, _)]) (pc := 48) G dX5_lakeOf_48 1 rfl (by decide) rfl ?_
            refine wp_goto (tgt := 4) (pc := 51) G dX5_lakeOf_51 (by decide) ?_
            first
              | exact ih (k + 1) k (by omega) (by omega) (by rw [lk_s hk.1, if_pos ⟨h_21, h_39⟩])
              | exact ih (k + 1) r (by omega) (by omega) (by rw [lk_s hk.1, if_neg (fun h => h_39 h.2)]; exact hr)
              | exact ih (k + 1) r (by omega) (by omega) (by rw [lk_s hk.1, if_neg (fun h => h_21 h.1)]; exact hr)
          · have h_39 := h_36.t h_39
            refine wp_iload_n (pc := 42) G dX5_lakeOf_42 rfl 0 rfl ?_
            refine wp_goto (tgt := 47) (pc := 43) G dX5_lakeOf_43 (by decide) ?_
            refine wp_istore_n (L' := [(2, _), (3, _), (0, _), (1, _)]) (pc := 47) G dX5_lakeOf_47 rfl (by decide) rfl ?_
            refine wp_iinc (L' := [(3, _), (2, _), (0, _), (1, _)]) (pc := 48) G dX5_lakeOf_48 1 rfl (by decide) rfl ?_
            refine wp_goto (tgt := 4) (pc := 51) G dX5_lakeOf_51 (by decide) ?_
            first
              | exact ih (k + 1) k (by omega) (by omega) (by rw [lk_s hk.1, if_pos ⟨h_21, h_39⟩])
              | exact ih (k + 1) r (by omega) (by omega) (by rw [lk_s hk.1, if_neg (fun h => h_39 h.2)]; exact hr)
              | exact ih (k + 1) r (by omega) (by omega) (by rw [lk_s hk.1, if_neg (fun h => h_21 h.1)]; exact hr)
  refine wp_iconst (pc := 0) G dX5_lakeOf_0 ?_
  refine wp_istore_n (L' := [(2, _), (0, _), (1, _)]) (pc := 1) G dX5_lakeOf_1 rfl (by decide) rfl ?_
  refine wp_iconst (pc := 2) G dX5_lakeOf_2 ?_
  refine wp_istore_n (L' := [(3, _), (2, _), (0, _), (1, _)]) (pc := 3) G dX5_lakeOf_3 rfl (by decide) rfl ?_
  exact loop 73 0 (-1) (by omega) (by omega) rfl
set_option maxHeartbeats 4000000 in
theorem ct_findsPass {g : GV} (hg : GOk g) {ad : Nat → Nat} {M : Nat → Int → Int} (hL : okL (M 0)) (hK : okK (M 0)) {k m : Int} (hk : 0 ≤ k ∧ k < 72) (hm : M 0 (152 + k) = m) : CMv g ad yX5_findsPass cX5_findsPass 7 4 [iV k] M (fun M' => fr [6, 7, 8] M M' ∧ M' 8 0 = (pass (M 0) m).1 ∧ M' 6 0 = (pass (M 0) m).2.1 ∧ M' 7 0 = (pass (M 0) m).2.2) := by
  refine wm_ofv hg (by decide +kernel) (Nat.le_of_ble_eq_true rfl) (fun F G R9 => ?_)
  have G : FxOk g F cX5_findsPass RX5 7 4 := G
  refine wp_loc (L' := [(0, _), (1, _)]) rfl ?_
  have hmk := (hK.1 k hk).1
  rw [hm] at hmk
  have hm2 : 0 ≤ m ∧ m < 4611686018427387904 := by omega
  have hmm := hL.m
  have loop : ∀ (n : Nat) (a : Int) (M1 : Nat → Int → Int), (0 ≤ a ∧ a ≤ mny (M 0)) → (mny (M 0) + 1 ≤ a + n) → (fr [6, 7, 8] M M1) → (M1 8 0 = (ps (M 0) m a.toNat).1) → (M1 6 0 = (ps (M 0) m a.toNat).2.1) → (M1 7 0 = (ps (M 0) m a.toNat).2.2) → Wp g F [MB g ad M1] 0 0 29 [(4, iV a), (2, jV m), (0, .ref (ad 25)), (1, iV k)] [] := by
    intro n
    induction n with
    | zero =>
      intro a M1 hab hn hf e8 e6 e7
      exfalso
      omega
    | succ n ih =>
      intro a M1 hab hn hf e8 e6 e7
      have hz : M1 0 = M 0 := hf 0 (by decide)
      have hmm := hL.m
      refine wp_iload (pc := 29) G dX5_findsPass_29 0 rfl ?_
      refine wp_aload_n (pc := 31) G dX5_findsPass_31 rfl 2 rfl ?_
      refine wm_calli0 (pc := 32) G dX5_findsPass_32 kX5_61 (ct_many hg) (by decide) (by decide) (Nat.le_of_ble_eq_true rfl) (fun z_32 M_32 h_32 => ?_)
      obtain ⟨rfl, h_32⟩ := h_32
      rw [hz] at h_32
      subst h_32
      refine wp_icmp_ge (tgt := 140) (pc := 35) G dX5_findsPass_35 (by omega) (by omega) (by decide) (fun h_35 => ?_) (fun h_35 => ?_)
      · exact wm_vret (pc := 140) G R9 dX5_findsPass_140 ⟨hf, by rw [e8, show a = mny (M 0) by omega]; rfl, by rw [e6, show a = mny (M 0) by omega]; rfl, by rw [e7, show a = mny (M 0) by omega]; rfl⟩
      · refine wp_iconst (pc := 38) G dX5_findsPass_38 ?_
        refine wp_istore (L' := [(5, _), (4, _), (2, _), (0, _), (1, _)]) (pc := 39) G dX5_findsPass_39 (by decide) rfl ?_
        have ha : isC (M 0) a := ⟨hab.1, h_35⟩
        have ha1 := hab.1
        have ha2 := ha.lt hL
        have inner : ∀ (n : Nat) (s : Int) (M2 : Nat → Int → Int), (0 ≤ s ∧ s ≤ 4) → (5 ≤ s + n) → (s = 0 ∨ inS m a) → (fr [6, 7, 8] M M2) → (M2 8 0 = (psI (M 0) m a (ps (M 0) m a.toNat) s.toNat).1) → (M2 6 0 = (psI (M 0) m a (ps (M 0) m a.toNat) s.toNat).2.1) → (M2 7 0 = (psI (M 0) m a (ps (M 0) m a.toNat) s.toNat).2.2) → Wp g F [MB g ad M2] 0 0 41 [(5, iV s), (4, iV a), (2, jV m), (0, .ref (ad 25)), (1, iV k)] [] := by
          intro n
          induction n with
          | zero =>
            intro s M2 hs hn2 hsm hf2 e8 e6 e7
            exfalso
            omega
          | succ n ih2 =>
            intro s M2 hs hn2 hsm hf2 e8 e6 e7
            have hz2 : M2 0 = M 0 := hf2 0 (by decide)
            have hL2 : okL (M2 0) := by rw [hz2]; exact hL
            have hpr : M2 8 0 = -1 ∨ (0 ≤ M2 8 0 ∧ M2 8 0 ≤ 99) := by
              rw [e8]
              rcases psI_r hL (m := m) ha (ps_r hL (m := m) a.toNat (by omega)) s.toNat with h | h
              · exact Or.inl h
              · exact Or.inr ⟨h.1, h.2.1⟩
            refine wp_iload (pc := 41) G dX5_findsPass_41 0 rfl ?_
            refine wp_iconst (pc := 43) G dX5_findsPass_43 ?_
            refine wp_icmp_ge (tgt := 134) (pc := 44) G dX5_findsPass_44 (by omega) (by omega) (by decide) (fun h_44 => ?_) (fun h_44 => ?_)
            · refine wp_iinc (L' := [(4, _), (5, _), (2, _), (0, _), (1, _)]) (pc := 134) G dX5_findsPass_134 1 rfl (by decide) rfl ?_
              refine wp_goto (tgt := 29) (pc := 137) G dX5_findsPass_137 (by decide) ?_
              refine wp_sub (L' := [(4, _), (2, _), (0, _), (1, _)]) [0, 2, 3, 4] rfl ?_
              first
                | exact ih (a + 1) M2 (by omega) (by omega) hf2 (by rw [ps_s ha1, if_pos (hsm.resolve_left (by omega)), show (4 : Nat) = s.toNat by omega]; exact e8) (by rw [ps_s ha1, if_pos (hsm.resolve_left (by omega)), show (4 : Nat) = s.toNat by omega]; exact e6) (by rw [ps_s ha1, if_pos (hsm.resolve_left (by omega)), show (4 : Nat) = s.toNat by omega]; exact e7)
                | exact ih (a + 1) M2 (by omega) (by omega) hf2 (by rw [ps_s ha1, if_neg h_53]; rw [hsm.resolve_right h_53] at e8; exact e8) (by rw [ps_s ha1, if_neg h_53]; rw [hsm.resolve_right h_53] at e6; exact e6) (by rw [ps_s ha1, if_neg h_53]; rw [hsm.resolve_right h_53] at e7; exact e7)
            · refine wp_lload_n (pc := 47) G dX5_findsPass_47 rfl 2 rfl ?_
              refine wp_iload (pc := 48) G dX5_findsPass_48 1 rfl ?_
              refine ws_calli2 (pc := 50) G dX5_findsPass_50 kX5_91 (ct_has hg hm2 (by omega)) (by decide) (by decide) (Nat.le_of_ble_eq_true rfl) (fun z_50 h_50 => ?_)
              refine wp_if_eq (tgt := 134) (pc := 53) G dX5_findsPass_53 h_50.r (by decide) (fun h_53 => ?_) (fun h_53 => ?_)
              · have h_53 := h_50.f h_53
                refine wp_iinc (L' := [(4, _), (5, _), (2, _), (0, _), (1, _)]) (pc := 134) G dX5_findsPass_134 1 rfl (by decide) rfl ?_
                refine wp_goto (tgt := 29) (pc := 137) G dX5_findsPass_137 (by decide) ?_
                refine wp_sub (L' := [(4, _), (2, _), (0, _), (1, _)]) [0, 2, 3, 4] rfl ?_
                first
                  | exact ih (a + 1) M2 (by omega) (by omega) hf2 (by rw [ps_s ha1, if_pos (hsm.resolve_left (by omega)), show (4 : Nat) = s.toNat by omega]; exact e8) (by rw [ps_s ha1, if_pos (hsm.resolve_left (by omega)), show (4 : Nat) = s.toNat by omega]; exact e6) (by rw [ps_s ha1, if_pos (hsm.resolve_left (by omega)), show (4 : Nat) = s.toNat by omega]; exact e7)
                  | exact ih (a + 1) M2 (by omega) (by omega) hf2 (by rw [ps_s ha1, if_neg h_53]; rw [hsm.resolve_right h_53] at e8; exact e8) (by rw [ps_s ha1, if_neg h_53]; rw [hsm.resolve_right h_53] at e6; exact e6) (by rw [ps_s ha1, if_neg h_53]; rw [hsm.resolve_right h_53] at e7; exact e7)
              · have h_53 := h_50.t h_53
                refine wp_aload_n (pc := 56) G dX5_findsPass_56 rfl 3 rfl ?_
                refine wp_iload (pc := 57) G dX5_findsPass_57 1 rfl ?_
                refine wp_iload (pc := 59) G dX5_findsPass_59 0 rfl ?_
                refine wm_calli2 (pc := 61) G dX5_findsPass_61 kX5_69 (ct_neighbor hg hL2 (by rw [hz2]; exact ha) (by omega)) (by decide) (by decide) (Nat.le_of_ble_eq_true rfl) (fun z_61 M_61 h_61 => ?_)
                obtain ⟨rfl, h_61⟩ := h_61
                rw [hz2] at h_61
                subst h_61
                have hnb := nbr_r (s := s) hL ha
                refine wp_istore (L' := [(6, _), (5, _), (4, _), (2, _), (0, _), (1, _)]) (pc := 64) G dX5_findsPass_64 (by decide) rfl ?_
                refine wp_iload (pc := 66) G dX5_findsPass_66 0 rfl ?_
                refine wp_iconst (pc := 68) G dX5_findsPass_68 ?_
                refine wp_icmp_eq (tgt := 128) (pc := 69) G dX5_findsPass_69 (by omega) (by omega) (by decide) (fun h_69 => ?_) (fun h_69 => ?_)
                · refine wp_iinc (L' := [(5, _), (6, _), (4, _), (2, _), (0, _), (1, _)]) (pc := 128) G dX5_findsPass_128 1 rfl (by decide) rfl ?_
                  refine wp_goto (tgt := 41) (pc := 131) G dX5_findsPass_131 (by decide) ?_
                  refine wp_sub (L' := [(5, _), (4, _), (2, _), (0, _), (1, _)]) [0, 2, 3, 4, 5] rfl ?_
                  first
                    | exact ih2 (s + 1) _ (by omega) (by omega) (Or.inr h_53) hf2 (by rw [psI_s hs.1, psA_no (fun h => by first | exact h.1 h_69 | exact h.2.1 h_78 | omega)]; exact e8) (by rw [psI_s hs.1, psA_no (fun h => by first | exact h.1 h_69 | exact h.2.1 h_78 | omega)]; exact e6) (by rw [psI_s hs.1, psA_no (fun h => by first | exact h.1 h_69 | exact h.2.1 h_78 | omega)]; exact e7)
                    | exact ih2 (s + 1) _ (by omega) (by omega) (Or.inr h_53) (((hf2.s1 (by decide)).s1 (by decide)).s1 (by decide)) (by rw [psI_s hs.1, psA_ye ⟨h_69, h_78, by omega⟩]; rfl) (by rw [psI_s hs.1, psA_ye ⟨h_69, h_78, by omega⟩]; rfl) (by rw [psI_s hs.1, psA_ye ⟨h_69, h_78, by omega⟩]; rfl)
                · have hb : isC (M 0) (nbr (M 0) a s) := hnb.resolve_left h_69
                  have hb2 := hb.lt hL
                  refine wp_lload_n (pc := 72) G dX5_findsPass_72 rfl 3 rfl ?_
                  refine wp_iload (pc := 73) G dX5_findsPass_73 0 rfl ?_
                  refine ws_calli2 (pc := 75) G dX5_findsPass_75 kX5_91 (ct_has hg hm2 (by omega)) (by decide) (by decide) (Nat.le_of_ble_eq_true rfl) (fun z_75 h_75 => ?_)
                  refine wp_if_ne (tgt := 128) (pc := 78) G dX5_findsPass_78 h_75.r (by decide) (fun h_78 => ?_) (fun h_78 => ?_)
                  · have h_78 := h_75.t h_78
                    refine wp_iinc (L' := [(5, _), (6, _), (4, _), (2, _), (0, _), (1, _)]) (pc := 128) G dX5_findsPass_128 1 rfl (by decide) rfl ?_
                    refine wp_goto (tgt := 41) (pc := 131) G dX5_findsPass_131 (by decide) ?_
                    refine wp_sub (L' := [(5, _), (4, _), (2, _), (0, _), (1, _)]) [0, 2, 3, 4, 5] rfl ?_
                    first
                      | exact ih2 (s + 1) _ (by omega) (by omega) (Or.inr h_53) hf2 (by rw [psI_s hs.1, psA_no (fun h => by first | exact h.1 h_69 | exact h.2.1 h_78 | omega)]; exact e8) (by rw [psI_s hs.1, psA_no (fun h => by first | exact h.1 h_69 | exact h.2.1 h_78 | omega)]; exact e6) (by rw [psI_s hs.1, psA_no (fun h => by first | exact h.1 h_69 | exact h.2.1 h_78 | omega)]; exact e7)
                      | exact ih2 (s + 1) _ (by omega) (by omega) (Or.inr h_53) (((hf2.s1 (by decide)).s1 (by decide)).s1 (by decide)) (by rw [psI_s hs.1, psA_ye ⟨h_69, h_78, by omega⟩]; rfl) (by rw [psI_s hs.1, psA_ye ⟨h_69, h_78, by omega⟩]; rfl) (by rw [psI_s hs.1, psA_ye ⟨h_69, h_78, by omega⟩]; rfl)
                  · have h_78 := h_75.f h_78
                    refine wp_aload_n (pc := 81) G dX5_findsPass_81 rfl 4 rfl ?_
                    refine wm_get_8 (pc := 82) G dX5_findsPass_82 fX5_114_4 ?_
                    refine wp_iconst (pc := 85) G dX5_findsPass_85 ?_
                    refine wp_icmp_eq (tgt := 104) (pc := 86) G dX5_findsPass_86 (by omega) (by omega) (by decide) (fun h_86 => ?_) (fun h_86 => ?_)
                    · refine wp_aload_n (pc := 104) G dX5_findsPass_104 rfl 4 rfl ?_
                      refine wp_aload_n (pc := 105) G dX5_findsPass_105 rfl 4 rfl ?_
                      refine wp_iload (pc := 106) G dX5_findsPass_106 2 rfl ?_
                      refine wp_iload (pc := 108) G dX5_findsPass_108 0 rfl ?_
                      refine wm_calli2 (pc := 110) G dX5_findsPass_110 kX5_84 (ct_threshold hg hL2 (by rw [hz2]; exact ha) (by rw [hz2]; exact hb)) (by decide) (by decide) (Nat.le_of_ble_eq_true rfl) (fun z_110 M_110 h_110 => ?_)
                      obtain ⟨rfl, h_110⟩ := h_110
                      rw [hz2] at h_110
                      subst h_110
                      refine wm_put_8 (pc := 113) G dX5_findsPass_113 fX5_114_4 ?_
                      refine wp_aload_n (pc := 116) G dX5_findsPass_116 rfl 4 rfl ?_
                      refine wp_iload (pc := 117) G dX5_findsPass_117 2 rfl ?_
                      refine wm_put_6 (pc := 119) G dX5_findsPass_119 fX5_117_4 ?_
                      refine wp_aload_n (pc := 122) G dX5_findsPass_122 rfl 4 rfl ?_
                      refine wp_iload (pc := 123) G dX5_findsPass_123 0 rfl ?_
                      refine wm_put_7 (pc := 125) G dX5_findsPass_125 fX5_120_4 ?_
                      refine wp_iinc (L' := [(5, _), (6, _), (4, _), (2, _), (0, _), (1, _)]) (pc := 128) G dX5_findsPass_128 1 rfl (by decide) rfl ?_
                      refine wp_goto (tgt := 41) (pc := 131) G dX5_findsPass_131 (by decide) ?_
                      refine wp_sub (L' := [(5, _), (4, _), (2, _), (0, _), (1, _)]) [0, 2, 3, 4, 5] rfl ?_
                      first
                        | exact ih2 (s + 1) _ (by omega) (by omega) (Or.inr h_53) hf2 (by rw [psI_s hs.1, psA_no (fun h => by first | exact h.1 h_69 | exact h.2.1 h_78 | omega)]; exact e8) (by rw [psI_s hs.1, psA_no (fun h => by first | exact h.1 h_69 | exact h.2.1 h_78 | omega)]; exact e6) (by rw [psI_s hs.1, psA_no (fun h => by first | exact h.1 h_69 | exact h.2.1 h_78 | omega)]; exact e7)
                        | exact ih2 (s + 1) _ (by omega) (by omega) (Or.inr h_53) (((hf2.s1 (by decide)).s1 (by decide)).s1 (by decide)) (by rw [psI_s hs.1, psA_ye ⟨h_69, h_78, by omega⟩]; rfl) (by rw [psI_s hs.1, psA_ye ⟨h_69, h_78, by omega⟩]; rfl) (by rw [psI_s hs.1, psA_ye ⟨h_69, h_78, by omega⟩]; rfl)
                    · refine wp_aload_n (pc := 89) G dX5_findsPass_89 rfl 4 rfl ?_
                      refine wp_iload (pc := 90) G dX5_findsPass_90 2 rfl ?_
                      refine wp_iload (pc := 92) G dX5_findsPass_92 0 rfl ?_
                      refine wm_calli2 (pc := 94) G dX5_findsPass_94 kX5_84 (ct_threshold hg hL2 (by rw [hz2]; exact ha) (by rw [hz2]; exact hb)) (by decide) (by decide) (Nat.le_of_ble_eq_true rfl) (fun z_94 M_94 h_94 => ?_)
                      obtain ⟨rfl, h_94⟩ := h_94
                      rw [hz2] at h_94
                      subst h_94
                      have htr := thr_r hL ha hb
                      refine wp_aload_n (pc := 97) G dX5_findsPass_97 rfl 4 rfl ?_
                      refine wm_get_8 (pc := 98) G dX5_findsPass_98 fX5_114_4 ?_
                      refine wp_icmp_ge (tgt := 128) (pc := 101) G dX5_findsPass_101 (by omega) (by omega) (by decide) (fun h_101 => ?_) (fun h_101 => ?_)
                      · refine wp_iinc (L' := [(5, _), (6, _), (4, _), (2, _), (0, _), (1, _)]) (pc := 128) G dX5_findsPass_128 1 rfl (by decide) rfl ?_
                        refine wp_goto (tgt := 41) (pc := 131) G dX5_findsPass_131 (by decide) ?_
                        refine wp_sub (L' := [(5, _), (4, _), (2, _), (0, _), (1, _)]) [0, 2, 3, 4, 5] rfl ?_
                        first
                          | exact ih2 (s + 1) _ (by omega) (by omega) (Or.inr h_53) hf2 (by rw [psI_s hs.1, psA_no (fun h => by first | exact h.1 h_69 | exact h.2.1 h_78 | omega)]; exact e8) (by rw [psI_s hs.1, psA_no (fun h => by first | exact h.1 h_69 | exact h.2.1 h_78 | omega)]; exact e6) (by rw [psI_s hs.1, psA_no (fun h => by first | exact h.1 h_69 | exact h.2.1 h_78 | omega)]; exact e7)
                          | exact ih2 (s + 1) _ (by omega) (by omega) (Or.inr h_53) (((hf2.s1 (by decide)).s1 (by decide)).s1 (by decide)) (by rw [psI_s hs.1, psA_ye ⟨h_69, h_78, by omega⟩]; rfl) (by rw [psI_s hs.1, psA_ye ⟨h_69, h_78, by omega⟩]; rfl) (by rw [psI_s hs.1, psA_ye ⟨h_69, h_78, by omega⟩]; rfl)
                      · refine wp_aload_n (pc := 104) G dX5_findsPass_104 rfl 4 rfl ?_
                        refine wp_aload_n (pc := 105) G dX5_findsPass_105 rfl 4 rfl ?_
                        refine wp_iload (pc := 106) G dX5_findsPass_106 2 rfl ?_
                        refine wp_iload (pc := 108) G dX5_findsPass_108 0 rfl ?_
                        refine wm_calli2 (pc := 110) G dX5_findsPass_110 kX5_84 (ct_threshold hg hL2 (by rw [hz2]; exact ha) (by rw [hz2]; exact hb)) (by decide) (by decide) (Nat.le_of_ble_eq_true rfl) (fun z_110 M_110 h_110 => ?_)
                        obtain ⟨rfl, h_110⟩ := h_110
                        rw [hz2] at h_110
                        subst h_110
                        refine wm_put_8 (pc := 113) G dX5_findsPass_113 fX5_114_4 ?_
                        refine wp_aload_n (pc := 116) G dX5_findsPass_116 rfl 4 rfl ?_
                        refine wp_iload (pc := 117) G dX5_findsPass_117 2 rfl ?_
                        refine wm_put_6 (pc := 119) G dX5_findsPass_119 fX5_117_4 ?_
                        refine wp_aload_n (pc := 122) G dX5_findsPass_122 rfl 4 rfl ?_
                        refine wp_iload (pc := 123) G dX5_findsPass_123 0 rfl ?_
                        refine wm_put_7 (pc := 125) G dX5_findsPass_125 fX5_120_4 ?_
                        refine wp_iinc (L' := [(5, _), (6, _), (4, _), (2, _), (0, _), (1, _)]) (pc := 128) G dX5_findsPass_128 1 rfl (by decide) rfl ?_
                        refine wp_goto (tgt := 41) (pc := 131) G dX5_findsPass_131 (by decide) ?_
                        refine wp_sub (L' := [(5, _), (4, _), (2, _), (0, _), (1, _)]) [0, 2, 3, 4, 5] rfl ?_
                        first
                          | exact ih2 (s + 1) _ (by omega) (by omega) (Or.inr h_53) hf2 (by rw [psI_s hs.1, psA_no (fun h => by first | exact h.1 h_69 | exact h.2.1 h_78 | omega)]; exact e8) (by rw [psI_s hs.1, psA_no (fun h => by first | exact h.1 h_69 | exact h.2.1 h_78 | omega)]; exact e6) (by rw [psI_s hs.1, psA_no (fun h => by first | exact h.1 h_69 | exact h.2.1 h_78 | omega)]; exact e7)
                          | exact ih2 (s + 1) _ (by omega) (by omega) (Or.inr h_53) (((hf2.s1 (by decide)).s1 (by decide)).s1 (by decide)) (by rw [psI_s hs.1, psA_ye ⟨h_69, h_78, by omega⟩]; rfl) (by rw [psI_s hs.1, psA_ye ⟨h_69, h_78, by omega⟩]; rfl) (by rw [psI_s hs.1, psA_ye ⟨h_69, h_78, by omega⟩]; rfl)
        exact inner 5 0 M1 (by omega) (by omega) (Or.inl rfl) hf e8 e6 e7
  refine wp_aload_n (pc := 0) G dX5_findsPass_0 rfl 0 rfl ?_
  refine wp_iconst (pc := 1) G dX5_findsPass_1 ?_
  refine wm_put_8 (pc := 2) G dX5_findsPass_2 fX5_114_4 ?_
  refine wp_aload_n (pc := 5) G dX5_findsPass_5 rfl 0 rfl ?_
  refine wp_iconst (pc := 6) G dX5_findsPass_6 ?_
  refine wm_put_6 (pc := 7) G dX5_findsPass_7 fX5_117_4 ?_
  refine wp_aload_n (pc := 10) G dX5_findsPass_10 rfl 0 rfl ?_
  refine wp_iconst (pc := 11) G dX5_findsPass_11 ?_
  refine wm_put_7 (pc := 12) G dX5_findsPass_12 fX5_120_4 ?_
  refine wp_aload_n (pc := 15) G dX5_findsPass_15 rfl 0 rfl ?_
  refine wm_get_0 (pc := 16) G dX5_findsPass_16 fX5_7_4 ?_
  refine wp_sipush (pc := 19) G dX5_findsPass_19 (by decide) ?_
  refine wp_iload_n (pc := 22) G dX5_findsPass_22 rfl 1 rfl ?_
  refine wp_iadd (pc := 23) G dX5_findsPass_23 ?_
  refine wm_ald_0 (pc := 24) G dX5_findsPass_24 (by omega) ?_
  show Wp g F _ 0 0 (24 + 1) _ (jV (M 0 (152 + k)) :: []) 
  rw [hm]
  refine wp_lstore_n (L' := [(2, _), (0, _), (1, _)]) (pc := 25) G dX5_findsPass_25 rfl (by decide) rfl ?_
  refine wp_iconst (pc := 26) G dX5_findsPass_26 ?_
  refine wp_istore (L' := [(4, _), (2, _), (0, _), (1, _)]) (pc := 27) G dX5_findsPass_27 (by decide) rfl ?_
  exact loop 37 0 _ (by omega) (by omega) (((fr.rf.s1 (by decide)).s1 (by decide)).s1 (by decide)) rfl rfl rfl
