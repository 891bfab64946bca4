/-! THE MODEL: order, levels, wet cells -/
set_option maxRecDepth 100000
/-- the lakes' order stands in the fields 11, 12 -/
def ordP (M M' : Nat → Int → Int) : Prop := fr [11, 12] M M' ∧ M' 12 0 = nL (M 0) ∧ isOrd (M 0) (M' 11) (mny (M 0))
theorem isB_c {P : Prop} {z : Int} (h1 : P → z = 1) (h0 : ¬ P → z = 0) : isB z P := by
  by_cases h : P
  · exact Or.inl ⟨h1 h, h⟩
  · exact Or.inr ⟨h0 h, h⟩
set_option maxHeartbeats 4000000 in
theorem ct_orders {g : GV} (hg : GOk g) {ad : Nat → Nat} {M : Nat → Int → Int} (hL : okL (M 0)) (hK : okK (M 0)) : CMv g ad yX5_orders cX5_orders 3 2 [] M (fun M' => ordP M M') := by
  refine wm_ofv hg (by decide +kernel) (Nat.le_of_ble_eq_true rfl) (fun F G R9 => ?_)
  have G : FxOk g F cX5_orders RX5 3 2 := G
  refine wp_loc (L' := [(0, _)]) rfl ?_
  have hmm := hL.m
  have loop : ∀ (n : Nat) (c : Int) (M1 : Nat → Int → Int), (0 ≤ c ∧ c ≤ mny (M 0)) → (mny (M 0) + 1 ≤ c + n) → (fr [11, 12] M M1) → (M1 12 0 = cntP (isF (M 0)) c.toNat) → (isOrd (M 0) (M1 11) c) → Wp g F [MB g ad M1] 0 0 7 [(1, iV c), (0, .ref (ad 25))] [] := by
    intro n
    induction n with
    | zero =>
      intro c M1 hc hn hf h12 ho
      exfalso
      omega
    | succ n ih =>
      intro c M1 hc hn hf h12 ho
      have hz : M1 0 = M 0 := hf 0 (by decide)
      refine wp_iload_n (pc := 7) G dX5_orders_7 rfl 0 rfl ?_
      refine wp_aload_n (pc := 8) G dX5_orders_8 rfl 1 rfl ?_
      refine wm_calli0 (pc := 9) G dX5_orders_9 kX5_61 (ct_many hg) (by decide) (by decide) (Nat.le_of_ble_eq_true rfl) (fun z_9 M_9 h_9 => ?_)
      obtain ⟨rfl, h_9⟩ := h_9
      rw [hz] at h_9
      subst h_9
      refine wp_icmp_ge (tgt := 69) (pc := 12) G dX5_orders_12 (by omega) (by omega) (by decide) (fun h_12 => ?_) (fun h_12 => ?_)
      · exact wm_vret (pc := 69) G R9 dX5_orders_69 ⟨hf, by rw [h12, show c = mny (M 0) by omega]; rfl, by rw [← show c = mny (M 0) by omega]; exact ho⟩
      · refine wp_aload_n (pc := 15) G dX5_orders_15 rfl 1 rfl ?_
        refine wp_iload_n (pc := 16) G dX5_orders_16 rfl 0 rfl ?_
        refine wm_calli1 (pc := 17) G dX5_orders_17 kX5_133 (ct_lakeOf hg (by rw [hz]; exact hK) (by omega)) (by decide) (by decide) (Nat.le_of_ble_eq_true rfl) (fun z_17 M_17 h_17 => ?_)
        obtain ⟨rfl, h_17⟩ := h_17
        rw [hz] at h_17
        subst h_17
        have hlr := lakeZ_r (az := M 0) c
        refine wp_istore_n (L' := [(2, _), (1, _), (0, _)]) (pc := 20) G dX5_orders_20 rfl (by decide) rfl ?_
        refine wp_iload_n (pc := 21) G dX5_orders_21 rfl 0 rfl ?_
        refine wp_iconst (pc := 22) G dX5_orders_22 ?_
        refine wp_icmp_eq (tgt := 63) (pc := 23) G dX5_orders_23 (by omega) (by omega) (by decide) (fun h_23 => ?_) (fun h_23 => ?_)
        · refine wp_iinc (L' := [(1, _), (2, _), (0, _)]) (pc := 63) G dX5_orders_63 1 rfl (by decide) rfl ?_
          refine wp_goto (tgt := 7) (pc := 66) G dX5_orders_66 (by decide) ?_
          refine wp_sub (L' := [(1, _), (0, _)]) [0, 2] rfl ?_
          first
            | (have hF : isF (M 0) c := ⟨h_23, by have h9 := h_36; rw [hz] at h9; rw [h_40] at h9; exact h9⟩
               refine ih (c + 1) _ (by omega) (by omega) ((hf.a1 (by decide)).s1 (by decide)) (by rw [cntP_y hc.1 hF, ← h12]; rfl) (fun x hx hxc hxF => ?_)
               show fup (M1 11) (M1 12 0) (lakeZ (M 0) c) _ = _
               by_cases e : x = c
               · rw [e, h12, fup_s]
               · have h9 := cntP_lt (p := isF (M 0)) hx.1 (show x < c by omega) hxF
                 rw [fup_n _ _ (by omega)]
                 exact ho x hx (by omega) hxF)
            | (have hF : ¬ isF (M 0) c := by
                 rintro ⟨q1, q2⟩
                 first | exact q1 h_23 | (have h9 := h_36; rw [hz] at h9; exact h_40 (isLow_u h9 q2))
               exact ih (c + 1) _ (by omega) (by omega) hf (by rw [cntP_n hc.1 hF]; exact h12) (fun x hx hxc hxF => by
                 by_cases e : x = c
                 · rw [e] at hxF; exact absurd hxF hF
                 · exact ho x hx (by omega) hxF))
        · have hin := lakeZ_in h_23
          have hmk := (hK.1 (lakeZ (M 0) c) (by omega)).1
          refine wp_aload_n (pc := 26) G dX5_orders_26 rfl 2 rfl ?_
          refine wm_get_0 (pc := 27) G dX5_orders_27 fX5_7_4 ?_
          refine wp_sipush (pc := 30) G dX5_orders_30 (by decide) ?_
          refine wp_iload_n (pc := 33) G dX5_orders_33 rfl 0 rfl ?_
          refine wp_iadd (pc := 34) G dX5_orders_34 ?_
          refine wm_ald_0 (pc := 35) G dX5_orders_35 (by omega) ?_
          refine ws_calli1 (pc := 36) G dX5_orders_36 kX5_111 (ct_lowest hg (by rw [hz]; exact hmk) (by rw [hz]; exact fun e => inS_0 c (e ▸ hin.2))) (by decide) (by decide) (Nat.le_of_ble_eq_true rfl) (fun z_36 h_36 => ?_)
          refine wp_iload_n (pc := 39) G dX5_orders_39 rfl 1 rfl ?_
          refine wp_icmp_ne (tgt := 63) (pc := 40) G dX5_orders_40 (by have := h_36.1; omega) (by omega) (by decide) (fun h_40 => ?_) (fun h_40 => ?_)
          · refine wp_iinc (L' := [(1, _), (2, _), (0, _)]) (pc := 63) G dX5_orders_63 1 rfl (by decide) rfl ?_
            refine wp_goto (tgt := 7) (pc := 66) G dX5_orders_66 (by decide) ?_
            refine wp_sub (L' := [(1, _), (0, _)]) [0, 2] rfl ?_
            first
              | (have hF : isF (M 0) c := ⟨h_23, by have h9 := h_36; rw [hz] at h9; rw [h_40] at h9; exact h9⟩
                 refine ih (c + 1) _ (by omega) (by omega) ((hf.a1 (by decide)).s1 (by decide)) (by rw [cntP_y hc.1 hF, ← h12]; rfl) (fun x hx hxc hxF => ?_)
                 show fup (M1 11) (M1 12 0) (lakeZ (M 0) c) _ = _
                 by_cases e : x = c
                 · rw [e, h12, fup_s]
                 · have h9 := cntP_lt (p := isF (M 0)) hx.1 (show x < c by omega) hxF
                   rw [fup_n _ _ (by omega)]
                   exact ho x hx (by omega) hxF)
              | (have hF : ¬ isF (M 0) c := by
                   rintro ⟨q1, q2⟩
                   first | exact q1 h_23 | (have h9 := h_36; rw [hz] at h9; exact h_40 (isLow_u h9 q2))
                 exact ih (c + 1) _ (by omega) (by omega) hf (by rw [cntP_n hc.1 hF]; exact h12) (fun x hx hxc hxF => by
                   by_cases e : x = c
                   · rw [e] at hxF; exact absurd hxF hF
                   · exact ho x hx (by omega) hxF))
          · refine wp_aload_n (pc := 43) G dX5_orders_43 rfl 2 rfl ?_
            refine wm_get_11 (pc := 44) G dX5_orders_44 fX5_29_4 ?_
            refine wp_aload_n (pc := 47) G dX5_orders_47 rfl 2 rfl ?_
            refine wm_get_12 (pc := 48) G dX5_orders_48 fX5_149_4 ?_
            have hcr := cntP_r (isF (M 0)) c.toNat
            refine wp_iload_n (pc := 51) G dX5_orders_51 rfl 0 rfl ?_
            refine wm_ast_11 (pc := 52) G dX5_orders_52 (by omega) ?_
            refine wp_aload_n (pc := 53) G dX5_orders_53 rfl 2 rfl ?_
            refine wp_dup (pc := 54) G dX5_orders_54 rfl ?_
            refine wm_get_12 (pc := 55) G dX5_orders_55 fX5_149_4 ?_
            refine wp_iconst (pc := 58) G dX5_orders_58 ?_
            refine wp_iadd (pc := 59) G dX5_orders_59 ?_
            refine wm_put_12 (pc := 60) G dX5_orders_60 fX5_149_4 ?_
            refine wp_iinc (L' := [(1, _), (2, _), (0, _)]) (pc := 63) G dX5_orders_63 1 rfl (by decide) rfl ?_
            refine wp_goto (tgt := 7) (pc := 66) G dX5_orders_66 (by decide) ?_
            refine wp_sub (L' := [(1, _), (0, _)]) [0, 2] rfl ?_
            first
              | (have hF : isF (M 0) c := ⟨h_23, by have h9 := h_36; rw [hz] at h9; rw [h_40] at h9; exact h9⟩
                 refine ih (c + 1) _ (by omega) (by omega) ((hf.a1 (by decide)).s1 (by decide)) (by rw [cntP_y hc.1 hF, ← h12]; rfl) (fun x hx hxc hxF => ?_)
                 show fup (M1 11) (M1 12 0) (lakeZ (M 0) c) _ = _
                 by_cases e : x = c
                 · rw [e, h12, fup_s]
                 · have h9 := cntP_lt (p := isF (M 0)) hx.1 (show x < c by omega) hxF
                   rw [fup_n _ _ (by omega)]
                   exact ho x hx (by omega) hxF)
              | (have hF : ¬ isF (M 0) c := by
                   rintro ⟨q1, q2⟩
                   first | exact q1 h_23 | (have h9 := h_36; rw [hz] at h9; exact h_40 (isLow_u h9 q2))
                 exact ih (c + 1) _ (by omega) (by omega) hf (by rw [cntP_n hc.1 hF]; exact h12) (fun x hx hxc hxF => by
                   by_cases e : x = c
                   · rw [e] at hxF; exact absurd hxF hF
                   · exact ho x hx (by omega) hxF))
  refine wp_aload_n (pc := 0) G dX5_orders_0 rfl 0 rfl ?_
  refine wp_iconst (pc := 1) G dX5_orders_1 ?_
  refine wm_put_12 (pc := 2) G dX5_orders_2 fX5_149_4 ?_
  refine wp_iconst (pc := 5) G dX5_orders_5 ?_
  refine wp_istore_n (L' := [(1, _), (0, _)]) (pc := 6) G dX5_orders_6 rfl (by decide) rfl ?_
  exact loop 37 0 _ (by omega) (by omega) (fr.rf.s1 (by decide)) rfl (fun x hx h => by have := hx.1; omega)
set_option maxHeartbeats 4000000 in
theorem ct_numberOf {g : GV} (hg : GOk g) {ad : Nat → Nat} {M : Nat → Int → Int} {k i : Int} (hi : 0 ≤ i ∧ i < 36) (hi2 : M 11 i = k) (hr : ∀ j, 0 ≤ j ∧ j ≤ i → -2147483648 ≤ M 11 j ∧ M 11 j ≤ 2147483647) : CMi g ad yX5_numberOf cX5_numberOf 3 0 .int [iV k] M (fun z M' => M = M' ∧ (0 ≤ z ∧ z ≤ i) ∧ M 11 z = k ∧ ∀ x, 0 ≤ x ∧ x < z → M 11 x ≠ k) := by
  refine wm_ofi hg (by decide +kernel) (Nat.le_of_ble_eq_true rfl) (fun F G R9 => ?_)
  have G : FxOk g F cX5_numberOf RX5 3 0 := G
  refine wp_loc (L' := [(0, _), (1, _)]) rfl ?_
  have loop : ∀ (n : Nat) (j : Int), (0 ≤ j ∧ j ≤ i) → (i + 1 ≤ j + n) → (∀ x, 0 ≤ x ∧ x < j → M 11 x ≠ k) → Wp g F [MB g ad M] 0 0 2 [(2, iV j), (0, .ref (ad 25)), (1, iV k)] [] := by
    intro n
    induction n with
    | zero =>
      intro j hj hn hno
      exfalso
      omega
    | succ n ih =>
      intro j hj hn hno
      refine wp_aload_n (pc := 2) G dX5_numberOf_2 rfl 1 rfl ?_
      refine wm_get_11 (pc := 3) G dX5_numberOf_3 fX5_29_4 ?_
      refine wp_iload_n (pc := 6) G dX5_numberOf_6 rfl 0 rfl ?_
      refine wm_ald_11 (pc := 7) G dX5_numberOf_7 (by omega) ?_
      refine wp_iload_n (pc := 8) G dX5_numberOf_8 rfl 2 rfl ?_
      refine wp_icmp_eq (tgt := 18) (pc := 9) G dX5_numberOf_9 (hr j (by omega)) (by have h9 := hr i (by omega); rw [hi2] at h9; exact h9) (by decide) (fun h_9 => ?_) (fun h_9 => ?_)
      · refine wp_iload_n (pc := 18) G dX5_numberOf_18 rfl 0 rfl ?_
        exact wm_iret (pc := 19) G R9 dX5_numberOf_19 ⟨rfl, ⟨by omega, by omega⟩, h_9, hno⟩
      · refine wp_iinc (L' := [(2, _), (0, _), (1, _)]) (pc := 12) G dX5_numberOf_12 0 rfl (by decide) rfl ?_
        refine wp_goto (tgt := 2) (pc := 15) G dX5_numberOf_15 (by decide) ?_
        have hji : j ≠ i := fun e => h_9 (e ▸ hi2)
        exact ih (j + 1) (by omega) (by omega) (fun x hx => by
          by_cases e : x = j
          · rw [e]; exact h_9
          · exact hno x (by omega))
  refine wp_iconst (pc := 0) G dX5_numberOf_0 ?_
  refine wp_istore_n (L' := [(2, _), (0, _), (1, _)]) (pc := 1) G dX5_numberOf_1 rfl (by decide) rfl ?_
  exact loop (i + 1).toNat 0 (by omega) (by omega) (fun x hx => by omega)
set_option maxHeartbeats 4000000 in
theorem ct_isLake {g : GV} (hg : GOk g) {ad : Nat → Nat} {M : Nat → Int → Int} (hL : okL (M 0)) (hK : okK (M 0)) {n : Int} (hn : -2147483648 ≤ n ∧ n ≤ 2147483647) : CMi g ad yX5_isLake cX5_isLake 2 3 .boolean [iV n] M (fun z M' => ordP M M' ∧ isB z (0 ≤ n ∧ n < nL (M 0))) := by
  refine wm_ofi hg (by decide +kernel) (Nat.le_of_ble_eq_true rfl) (fun F G R9 => ?_)
  have G : FxOk g F cX5_isLake RX5 2 3 := G
  refine wp_loc (L' := [(0, _), (1, _)]) rfl ?_
  refine wp_aload_n (pc := 0) G dX5_isLake_0 rfl 0 rfl ?_
  refine wm_callv0 (pc := 1) G dX5_isLake_1 kX5_152 (ct_orders hg hL hK) (by decide) (by decide) (Nat.le_of_ble_eq_true rfl) (fun M_1 h_1 => ?_)
  have hnr := nL_r hL
  have h12 := h_1.2.1
  refine wp_iload_n (pc := 4) G dX5_isLake_4 rfl 1 rfl ?_
  refine wp_i2l (pc := 5) G dX5_isLake_5 (by omega) ?_
  refine wp_lconst0 (pc := 6) G dX5_isLake_6 ?_
  refine wp_aload_n (pc := 7) G dX5_isLake_7 rfl 0 rfl ?_
  refine wm_get_12 (pc := 8) G dX5_isLake_8 fX5_149_4 ?_
  refine wp_i2l (pc := 11) G dX5_isLake_11 (by omega) ?_
  refine wp_lconst1 (pc := 12) G dX5_isLake_12 ?_
  refine wp_lsub (pc := 13) G dX5_isLake_13 ?_
  refine ws_calli3 (pc := 14) G dX5_isLake_14 kX5_65 (ct_in hg (by omega) (by omega) (by omega)) (by decide) (by decide) (Nat.le_of_ble_eq_true rfl) (fun z_14 h_14 => ?_)
  exact wm_zret (pc := 17) G R9 dX5_isLake_17 h_14.z ⟨h_1, h_14.iff (by omega)⟩
theorem bl_step {az : Int → Int} {m v c : Int} (hc : 0 ≤ c) : bl az m (v + 1) (c + 1).toNat - bl az m v (c + 1).toNat = bl az m (v + 1) c.toNat - bl az m v c.toNat + (if inS m c ∧ hgt az c = v then 1 else 0) := by
  rw [bl_s hc, bl_s hc]
  by_cases h : inS m c
  · by_cases e : hgt az c = v
    · rw [if_pos ⟨h, by omega⟩, if_neg (by omega), if_pos ⟨h, e⟩]; omega
    · by_cases e2 : hgt az c < v
      · rw [if_pos ⟨h, by omega⟩, if_pos ⟨h, e2⟩, if_neg (fun q => e q.2)]; omega
      · rw [if_neg (fun q => by have := q.2; omega), if_neg (fun q => e2 q.2), if_neg (fun q => e q.2)]; omega
  · rw [if_neg (fun q => h q.1), if_neg (fun q => h q.1), if_neg (fun q => h q.1)]; omega
theorem hs_step {az : Int → Int} {m v c : Int} (hc : 0 ≤ c) : hs az m (v + 1) (c + 1).toNat - hs az m v (c + 1).toNat = hs az m (v + 1) c.toNat - hs az m v c.toNat + (if inS m c ∧ hgt az c = v then v else 0) := by
  rw [hs_s hc, hs_s hc]
  by_cases h : inS m c
  · by_cases e : hgt az c = v
    · rw [if_pos ⟨h, by omega⟩, if_neg (by omega), if_pos ⟨h, e⟩]; omega
    · by_cases e2 : hgt az c < v
      · rw [if_pos ⟨h, by omega⟩, if_pos ⟨h, e2⟩, if_neg (fun q => e q.2)]; omega
      · rw [if_neg (fun q => by have := q.2; omega), if_neg (fun q => e2 q.2), if_neg (fun q => e q.2)]; omega
  · rw [if_neg (fun q => h q.1), if_neg (fun q => h q.1), if_neg (fun q => h q.1)]; omega
set_option maxHeartbeats 4000000 in
theorem ct_levels {g : GV} (hg : GOk g) {ad : Nat → Nat} {M : Nat → Int → Int} (hL : okL (M 0)) (hK : okK (M 0)) {k m vol : Int} (hk : 0 ≤ k ∧ k < 72) (hm : M 0 (152 + k) = m) (hvol : M 0 (224 + k) = vol) (hne : ∃ c, isC (M 0) c ∧ inS m c) : CMv g ad yX5_levels cX5_levels 11 1 [iV k] M (fun M' => fr [13, 14] M M' ∧ LV (M 0) m vol (M' 13 0) (M' 14 0)) := by
  refine wm_ofv hg (by decide +kernel) (Nat.le_of_ble_eq_true rfl) (fun F G R9 => ?_)
  have G : FxOk g F cX5_levels RX5 11 1 := G
  refine wp_loc (L' := [(0, _), (1, _)]) rfl ?_
  have hmk := (hK.1 k hk).1
  rw [hm] at hmk
  have hm2 : 0 ≤ m ∧ m < 4611686018427387904 := by omega
  have hmm := hL.m
  have hvr := (hK.1 k hk).2.1
  rw [hvol] at hvr
  obtain ⟨c9, hm9⟩ := hne
  have loop : ∀ (n : Nat) (v S e : Int) (M1 : Nat → Int → Int), (0 ≤ v ∧ v ≤ 100) → (101 ≤ v + n) → (fr [13, 14] M M1) → ((e = 0 ∧ S = vol + hsZ (M 0) m v ∧ M1 14 0 = blZ (M 0) m v ∧ ∀ u, 0 ≤ u ∧ u < v → ¬ lvD (M 0) m vol u) ∨ (e = 1 ∧ LV (M 0) m vol S (M1 14 0))) → Wp g F [MB g ad M1] 0 0 34 [(7, iV v), (6, iV e), (4, jV S), (2, jV m), (0, .ref (ad 25)), (1, iV k)] [] := by
    intro n
    induction n with
    | zero =>
      intro v S e M1 hv hn hf hD
      exfalso
      omega
    | succ n ih =>
      intro v S e M1 hv hn hf hD
      have hz : M1 0 = M 0 := hf 0 (by decide)
      refine wp_iload (pc := 34) G dX5_levels_34 0 rfl ?_
      refine wp_bipush (pc := 36) G dX5_levels_36 (by decide) ?_
      refine wp_icmp_ge (tgt := 205) (pc := 38) G dX5_levels_38 (by omega) (by omega) (by decide) (fun h_38 => ?_) (fun h_38 => ?_)
      · refine wp_aload_n (pc := 205) G dX5_levels_205 rfl 4 rfl ?_
        refine wp_lload (pc := 206) G dX5_levels_206 2 rfl ?_
        refine wm_put_13 (pc := 208) G dX5_levels_208 fX5_159_4 ?_
        exact wm_vret (pc := 211) G R9 dX5_levels_211 ⟨hf.s1 (by decide), by
          show LV (M 0) m vol S (M1 14 0)
          rcases hD with ⟨e0, eS, eB, hnd⟩ | hD
          · exfalso
            refine hnd 99 (by omega) ⟨blZ_in hL hm9.1 hm9.2 (by have := hL.hg (hm9.1.lt hL); omega), Or.inl (fun x hx _ => (hL.hg (hx.lt hL)).2)⟩
          · exact hD.2⟩
      · refine wp_iload (pc := 41) G dX5_levels_41 1 rfl ?_
        refine wp_if_ne (tgt := 205) (pc := 43) G dX5_levels_43 (by omega) (by decide) (fun h_43 => ?_) (fun h_43 => ?_)
        · refine wp_aload_n (pc := 205) G dX5_levels_205 rfl 4 rfl ?_
          refine wp_lload (pc := 206) G dX5_levels_206 2 rfl ?_
          refine wm_put_13 (pc := 208) G dX5_levels_208 fX5_159_4 ?_
          exact wm_vret (pc := 211) G R9 dX5_levels_211 ⟨hf.s1 (by decide), by
            show LV (M 0) m vol S (M1 14 0)
            rcases hD with ⟨e0, eS, eB, hnd⟩ | hD
            · exfalso
              refine hnd 99 (by omega) ⟨blZ_in hL hm9.1 hm9.2 (by have := hL.hg (hm9.1.lt hL); omega), Or.inl (fun x hx _ => (hL.hg (hx.lt hL)).2)⟩
            · exact hD.2⟩
        · refine wp_iconst (pc := 46) G dX5_levels_46 ?_
          refine wp_istore (L' := [(8, _), (7, _), (6, _), (4, _), (2, _), (0, _), (1, _)]) (pc := 47) G dX5_levels_47 (by decide) rfl ?_
          refine wp_iconst (pc := 49) G dX5_levels_49 ?_
          refine wp_istore (L' := [(9, _), (8, _), (7, _), (6, _), (4, _), (2, _), (0, _), (1, _)]) (pc := 50) G dX5_levels_50 (by decide) rfl ?_
          refine wp_sub (L' := [(9, _), (8, _), (4, _), (7, _), (6, _), (2, _), (0, _), (1, _)]) [0, 1, 4, 2, 3, 5, 6, 7] rfl ?_
          obtain ⟨rfl, eS, eB, hnd⟩ := hD.resolve_right (by omega)
          have inner : ∀ (n : Nat) (c q S : Int) (M2 : Nat → Int → Int), (0 ≤ c ∧ c ≤ mny (M 0)) → (mny (M 0) + 1 ≤ c + n) → (fr [13, 14] M M2) → (isB q (∃ x, (0 ≤ x ∧ x < c) ∧ inS m x ∧ v < hgt (M 0) x)) → (S = vol + hsZ (M 0) m v + (hs (M 0) m (v + 1) c.toNat - hs (M 0) m v c.toNat)) → (M2 14 0 = blZ (M 0) m v + (bl (M 0) m (v + 1) c.toNat - bl (M 0) m v c.toNat)) → Wp g F [MB g ad M2] 0 0 52 [(9, iV c), (8, iV q), (4, jV S), (7, iV v), (6, iV 0), (2, jV m), (0, .ref (ad 25)), (1, iV k)] [] := by
            intro n
            induction n with
            | zero =>
              intro c q S M2 hc hn2 hf2 hq eS eB
              exfalso
              omega
            | succ n ih2 =>
              intro c q S M2 hc hn2 hf2 hq eS eB
              have hz2 : M2 0 = M 0 := hf2 0 (by decide)
              refine wp_iload (pc := 52) G dX5_levels_52 0 rfl ?_
              refine wp_aload_n (pc := 54) G dX5_levels_54 rfl 6 rfl ?_
              refine wm_calli0 (pc := 55) G dX5_levels_55 kX5_61 (ct_many hg) (by decide) (by decide) (Nat.le_of_ble_eq_true rfl) (fun z_55 M_55 h_55 => ?_)
              obtain ⟨rfl, h_55⟩ := h_55
              rw [hz2] at h_55
              subst h_55
              refine wp_icmp_ge (tgt := 162) (pc := 58) G dX5_levels_58 (by omega) (by omega) (by decide) (fun h_58 => ?_) (fun h_58 => ?_)
              · have hb9 := blZ_r hL (m := m) (v := v)
                have hb8 := bl_r hL (m := m) (v := v + 1) c.toNat (by omega)
                have hb7 := bl_r hL (m := m) (v := v) c.toNat (by omega)
                refine wp_aload_n (pc := 162) G dX5_levels_162 rfl 6 rfl ?_
                refine wm_get_14 (pc := 163) G dX5_levels_163 fX5_155_4 ?_
                refine wp_lconst0 (pc := 166) G dX5_levels_166 ?_
                refine wp_lcmp_le (tgt := 196) (pc := 167) G dX5_levels_167 dX5_levels_168 (by omega) (by omega) (by decide) (fun h_167 => ?_) (fun h_167 => ?_)
                · refine wp_iconst (pc := 196) G dX5_levels_196 ?_
                  refine wp_istore (L' := [(6, _), (9, _), (8, _), (4, _), (7, _), (2, _), (0, _), (1, _)]) (pc := 197) G dX5_levels_197 (by decide) rfl ?_
                  refine wp_iinc (L' := [(7, _), (6, _), (9, _), (8, _), (4, _), (2, _), (0, _), (1, _)]) (pc := 199) G dX5_levels_199 4 rfl (by decide) rfl ?_
                  refine wp_goto (tgt := 34) (pc := 202) G dX5_levels_202 (by decide) ?_
                  refine wp_sub (L' := [(7, _), (6, _), (4, _), (2, _), (0, _), (1, _)]) [0, 1, 4, 5, 6, 7] rfl ?_
                  have hcm : c = mny (M 0) := by omega
                  rw [hcm] at eS eB
                  have eS2 : S = vol + hsZ (M 0) m (v + 1) := by unfold hsZ at *; omega
                  have eB2 : M2 14 0 = blZ (M 0) m (v + 1) := by unfold blZ at *; omega
                  have hmo : (¬ ∃ x, (0 ≤ x ∧ x < c) ∧ inS m x ∧ v < hgt (M 0) x) → ∀ x, isC (M 0) x → inS m x → hgt (M 0) x ≤ v := by
                    intro q x hx hxm
                    rcases Int.lt_or_le v (hgt (M 0) x) with q2 | q2
                    · exact absurd ⟨x, by omega, hxm, q2⟩ q
                    · exact q2
                  first
                    | exact ih (v + 1) S 1 M2 (by omega) (by omega) hf2 (Or.inr ⟨rfl, v, by omega, eS2, eB2, ⟨by omega, Or.inl (hmo h_173)⟩, hnd⟩)
                    | exact ih (v + 1) S 1 M2 (by omega) (by omega) hf2 (Or.inr ⟨rfl, v, by omega, eS2, eB2, ⟨by omega, Or.inr (by rw [← eS2, ← eB2]; exact h_188)⟩, hnd⟩)
                    | exact ih (v + 1) S 0 M2 (by omega) (by omega) hf2 (Or.inl ⟨rfl, eS2, eB2, fun u hu => by
                        by_cases e : u = v
                        · rw [e]
                          rintro ⟨q1, q2⟩
                          first
                            | omega
                            | (rcases q2 with q2 | q2
                               · obtain ⟨x, hx, hxm, hxv⟩ := h_173
                                 have := q2 x ⟨hx.1, by omega⟩ hxm
                                 omega
                               · rw [← eS2, ← eB2] at q2; omega)
                        · exact hnd u (by omega)⟩)
                · have hbr := blZ_r hL (m := m) (v := v + 1)
                  have hS9 : -9223372036854775808 ≤ S ∧ S ≤ 9223372036854775807 := by
                    have h1 := blZ_r hL (m := m) (v := v)
                    have h2 := bl_r hL (m := m) (v := v + 1) c.toNat (by omega)
                    have h3 := bl_r hL (m := m) (v := v) c.toNat (by omega)
                    omega
                  have hB9 : -9223372036854775808 ≤ M2 14 0 * (v + 1) ∧ M2 14 0 * (v + 1) ≤ 9223372036854775807 := by
                    have h4 : 0 ≤ M2 14 0 ∧ M2 14 0 ≤ 1000 := by
                      have h1 := blZ_r hL (m := m) (v := v)
                      have h2 := bl_r hL (m := m) (v := v + 1) c.toNat (by omega)
                      have h3 := bl_r hL (m := m) (v := v) c.toNat (by omega)
                      omega
                    have h5 : M2 14 0 * (v + 1) ≤ 1000 * (v + 1) := Int.mul_le_mul_of_nonneg_right h4.2 (by omega)
                    have h6 : 0 ≤ M2 14 0 * (v + 1) := Int.mul_nonneg h4.1 (by omega)
                    omega
                  refine wp_iload (pc := 171) G dX5_levels_171 1 rfl ?_
                  refine wp_if_eq (tgt := 192) (pc := 173) G dX5_levels_173 hq.r (by decide) (fun h_173 => ?_) (fun h_173 => ?_)
                  · have h_173 := hq.f h_173
                    refine wp_iconst (pc := 192) G dX5_levels_192 ?_
                    refine wp_goto (tgt := 197) (pc := 193) G dX5_levels_193 (by decide) ?_
                    refine wp_istore (L' := [(6, _), (9, _), (8, _), (4, _), (7, _), (2, _), (0, _), (1, _)]) (pc := 197) G dX5_levels_197 (by decide) rfl ?_
                    refine wp_iinc (L' := [(7, _), (6, _), (9, _), (8, _), (4, _), (2, _), (0, _), (1, _)]) (pc := 199) G dX5_levels_199 4 rfl (by decide) rfl ?_
                    refine wp_goto (tgt := 34) (pc := 202) G dX5_levels_202 (by decide) ?_
                    refine wp_sub (L' := [(7, _), (6, _), (4, _), (2, _), (0, _), (1, _)]) [0, 1, 4, 5, 6, 7] rfl ?_
                    have hcm : c = mny (M 0) := by omega
                    rw [hcm] at eS eB
                    have eS2 : S = vol + hsZ (M 0) m (v + 1) := by unfold hsZ at *; omega
                    have eB2 : M2 14 0 = blZ (M 0) m (v + 1) := by unfold blZ at *; omega
                    have hmo : (¬ ∃ x, (0 ≤ x ∧ x < c) ∧ inS m x ∧ v < hgt (M 0) x) → ∀ x, isC (M 0) x → inS m x → hgt (M 0) x ≤ v := by
                      intro q x hx hxm
                      rcases Int.lt_or_le v (hgt (M 0) x) with q2 | q2
                      · exact absurd ⟨x, by omega, hxm, q2⟩ q
                      · exact q2
                    first
                      | exact ih (v + 1) S 1 M2 (by omega) (by omega) hf2 (Or.inr ⟨rfl, v, by omega, eS2, eB2, ⟨by omega, Or.inl (hmo h_173)⟩, hnd⟩)
                      | exact ih (v + 1) S 1 M2 (by omega) (by omega) hf2 (Or.inr ⟨rfl, v, by omega, eS2, eB2, ⟨by omega, Or.inr (by rw [← eS2, ← eB2]; exact h_188)⟩, hnd⟩)
                      | exact ih (v + 1) S 0 M2 (by omega) (by omega) hf2 (Or.inl ⟨rfl, eS2, eB2, fun u hu => by
                          by_cases e : u = v
                          · rw [e]
                            rintro ⟨q1, q2⟩
                            first
                              | omega
                              | (rcases q2 with q2 | q2
                                 · obtain ⟨x, hx, hxm, hxv⟩ := h_173
                                   have := q2 x ⟨hx.1, by omega⟩ hxm
                                   omega
                                 · rw [← eS2, ← eB2] at q2; omega)
                          · exact hnd u (by omega)⟩)
                  · have h_173 := hq.t h_173
                    refine wp_lload (pc := 176) G dX5_levels_176 2 rfl ?_
                    refine wp_aload_n (pc := 178) G dX5_levels_178 rfl 6 rfl ?_
                    refine wm_get_14 (pc := 179) G dX5_levels_179 fX5_155_4 ?_
                    refine wp_iload (pc := 182) G dX5_levels_182 3 rfl ?_
                    refine wp_i2l (pc := 184) G dX5_levels_184 (by omega) ?_
                    refine wp_lconst1 (pc := 185) G dX5_levels_185 ?_
                    refine wp_ladd (pc := 186) G dX5_levels_186 ?_
                    refine wp_lmul (pc := 187) G dX5_levels_187 ?_
                    refine wp_lcmp_gt (tgt := 196) (pc := 188) G dX5_levels_188 dX5_levels_189 hS9 hB9 (by decide) (fun h_188 => ?_) (fun h_188 => ?_)
                    · refine wp_iconst (pc := 196) G dX5_levels_196 ?_
                      refine wp_istore (L' := [(6, _), (9, _), (8, _), (4, _), (7, _), (2, _), (0, _), (1, _)]) (pc := 197) G dX5_levels_197 (by decide) rfl ?_
                      refine wp_iinc (L' := [(7, _), (6, _), (9, _), (8, _), (4, _), (2, _), (0, _), (1, _)]) (pc := 199) G dX5_levels_199 4 rfl (by decide) rfl ?_
                      refine wp_goto (tgt := 34) (pc := 202) G dX5_levels_202 (by decide) ?_
                      refine wp_sub (L' := [(7, _), (6, _), (4, _), (2, _), (0, _), (1, _)]) [0, 1, 4, 5, 6, 7] rfl ?_
                      have hcm : c = mny (M 0) := by omega
                      rw [hcm] at eS eB
                      have eS2 : S = vol + hsZ (M 0) m (v + 1) := by unfold hsZ at *; omega
                      have eB2 : M2 14 0 = blZ (M 0) m (v + 1) := by unfold blZ at *; omega
                      have hmo : (¬ ∃ x, (0 ≤ x ∧ x < c) ∧ inS m x ∧ v < hgt (M 0) x) → ∀ x, isC (M 0) x → inS m x → hgt (M 0) x ≤ v := by
                        intro q x hx hxm
                        rcases Int.lt_or_le v (hgt (M 0) x) with q2 | q2
                        · exact absurd ⟨x, by omega, hxm, q2⟩ q
                        · exact q2
                      first
                        | exact ih (v + 1) S 1 M2 (by omega) (by omega) hf2 (Or.inr ⟨rfl, v, by omega, eS2, eB2, ⟨by omega, Or.inl (hmo h_173)⟩, hnd⟩)
                        | exact ih (v + 1) S 1 M2 (by omega) (by omega) hf2 (Or.inr ⟨rfl, v, by omega, eS2, eB2, ⟨by omega, Or.inr (by rw [← eS2, ← eB2]; exact h_188)⟩, hnd⟩)
                        | exact ih (v + 1) S 0 M2 (by omega) (by omega) hf2 (Or.inl ⟨rfl, eS2, eB2, fun u hu => by
                            by_cases e : u = v
                            · rw [e]
                              rintro ⟨q1, q2⟩
                              first
                                | omega
                                | (rcases q2 with q2 | q2
                                   · obtain ⟨x, hx, hxm, hxv⟩ := h_173
                                     have := q2 x ⟨hx.1, by omega⟩ hxm
                                     omega
                                   · rw [← eS2, ← eB2] at q2; omega)
                            · exact hnd u (by omega)⟩)
                    · refine wp_iconst (pc := 192) G dX5_levels_192 ?_
                      refine wp_goto (tgt := 197) (pc := 193) G dX5_levels_193 (by decide) ?_
                      refine wp_istore (L' := [(6, _), (9, _), (8, _), (4, _), (7, _), (2, _), (0, _), (1, _)]) (pc := 197) G dX5_levels_197 (by decide) rfl ?_
                      refine wp_iinc (L' := [(7, _), (6, _), (9, _), (8, _), (4, _), (2, _), (0, _), (1, _)]) (pc := 199) G dX5_levels_199 4 rfl (by decide) rfl ?_
                      refine wp_goto (tgt := 34) (pc := 202) G dX5_levels_202 (by decide) ?_
                      refine wp_sub (L' := [(7, _), (6, _), (4, _), (2, _), (0, _), (1, _)]) [0, 1, 4, 5, 6, 7] rfl ?_
                      have hcm : c = mny (M 0) := by omega
                      rw [hcm] at eS eB
                      have eS2 : S = vol + hsZ (M 0) m (v + 1) := by unfold hsZ at *; omega
                      have eB2 : M2 14 0 = blZ (M 0) m (v + 1) := by unfold blZ at *; omega
                      have hmo : (¬ ∃ x, (0 ≤ x ∧ x < c) ∧ inS m x ∧ v < hgt (M 0) x) → ∀ x, isC (M 0) x → inS m x → hgt (M 0) x ≤ v := by
                        intro q x hx hxm
                        rcases Int.lt_or_le v (hgt (M 0) x) with q2 | q2
                        · exact absurd ⟨x, by omega, hxm, q2⟩ q
                        · exact q2
                      first
                        | exact ih (v + 1) S 1 M2 (by omega) (by omega) hf2 (Or.inr ⟨rfl, v, by omega, eS2, eB2, ⟨by omega, Or.inl (hmo h_173)⟩, hnd⟩)
                        | exact ih (v + 1) S 1 M2 (by omega) (by omega) hf2 (Or.inr ⟨rfl, v, by omega, eS2, eB2, ⟨by omega, Or.inr (by rw [← eS2, ← eB2]; exact h_188)⟩, hnd⟩)
                        | exact ih (v + 1) S 0 M2 (by omega) (by omega) hf2 (Or.inl ⟨rfl, eS2, eB2, fun u hu => by
                            by_cases e : u = v
                            · rw [e]
                              rintro ⟨q1, q2⟩
                              first
                                | omega
                                | (rcases q2 with q2 | q2
                                   · obtain ⟨x, hx, hxm, hxv⟩ := h_173
                                     have := q2 x ⟨hx.1, by omega⟩ hxm
                                     omega
                                   · rw [← eS2, ← eB2] at q2; omega)
                            · exact hnd u (by omega)⟩)
              · have hcC : isC (M 0) c := ⟨hc.1, h_58⟩
                have hcl := hcC.lt hL
                have J118 : ∀ (r q2 : Int), (isB r (inS m c ∧ hgt (M 0) c = v)) → (isB q2 (∃ x, (0 ≤ x ∧ x < c + 1) ∧ inS m x ∧ v < hgt (M 0) x)) → Wp g F [MB g ad M2] 0 0 118 [(10, iV r), (9, iV c), (8, iV q), (4, jV S), (7, iV v), (6, iV 0), (2, jV m), (0, .ref (ad 25)), (1, iV k)] [iV q2] := by
                  intro r q2 hr hq2
                  refine wp_istore (L' := [(8, _), (10, _), (9, _), (4, _), (7, _), (6, _), (2, _), (0, _), (1, _)]) (pc := 118) G dX5_levels_118 (by decide) rfl ?_
                  refine wp_aload_n (pc := 120) G dX5_levels_120 rfl 7 rfl ?_
                  refine wp_dup (pc := 121) G dX5_levels_121 rfl ?_
                  refine wm_get_14 (pc := 122) G dX5_levels_122 fX5_155_4 ?_
                  refine wp_iload (pc := 125) G dX5_levels_125 1 rfl ?_
                  refine wp_if_eq (tgt := 134) (pc := 127) G dX5_levels_127 hr.r (by decide) (fun h_127 => ?_) (fun h_127 => ?_)
                  · have h_127 := hr.f h_127
                    refine wp_lconst0 (pc := 134) G dX5_levels_134 ?_
                    refine wp_ladd (pc := 135) G dX5_levels_135 ?_
                    refine wm_put_14 (pc := 136) G dX5_levels_136 fX5_155_4 ?_
                    refine wp_lload (pc := 139) G dX5_levels_139 3 rfl ?_
                    refine wp_iload (pc := 141) G dX5_levels_141 1 rfl ?_
                    refine wp_if_eq (tgt := 152) (pc := 143) G dX5_levels_143 hr.r (by decide) (fun h_143 => ?_) (fun h_143 => ?_)
                    · have h_143 := hr.f h_143
                      refine wp_lconst0 (pc := 152) G dX5_levels_152 ?_
                      refine wp_ladd (pc := 153) G dX5_levels_153 ?_
                      refine wp_lstore (L' := [(4, _), (8, _), (10, _), (9, _), (7, _), (6, _), (2, _), (0, _), (1, _)]) (pc := 154) G dX5_levels_154 (by decide) rfl ?_
                      refine wp_iinc (L' := [(9, _), (4, _), (8, _), (10, _), (7, _), (6, _), (2, _), (0, _), (1, _)]) (pc := 156) G dX5_levels_156 3 rfl (by decide) rfl ?_
                      refine wp_goto (tgt := 52) (pc := 159) G dX5_levels_159 (by decide) ?_
                      refine wp_sub (L' := [(9, _), (8, _), (4, _), (7, _), (6, _), (2, _), (0, _), (1, _)]) [0, 2, 1, 4, 5, 6, 7, 8] rfl ?_
                      first
                        | exact absurd h_127 h_143
                        | exact absurd h_143 h_127
                        | exact ih2 (c + 1) q2 _ _ (by omega) (by omega) (hf2.s1 (by decide)) hq2 (by rw [hs_step hc.1, if_pos h_127]; omega) (by
                            show M2 14 0 + 1 = _
                            rw [bl_step hc.1, if_pos h_127]; omega)
                        | exact ih2 (c + 1) q2 _ _ (by omega) (by omega) (hf2.s1 (by decide)) hq2 (by rw [hs_step hc.1, if_neg h_127]; omega) (by
                            show M2 14 0 + 0 = _
                            rw [bl_step hc.1, if_neg h_127]; omega)
                    · have h_143 := hr.t h_143
                      refine wp_iload (pc := 146) G dX5_levels_146 4 rfl ?_
                      refine wp_i2l (pc := 148) G dX5_levels_148 (by omega) ?_
                      refine wp_goto (tgt := 153) (pc := 149) G dX5_levels_149 (by decide) ?_
                      refine wp_ladd (pc := 153) G dX5_levels_153 ?_
                      refine wp_lstore (L' := [(4, _), (8, _), (10, _), (9, _), (7, _), (6, _), (2, _), (0, _), (1, _)]) (pc := 154) G dX5_levels_154 (by decide) rfl ?_
                      refine wp_iinc (L' := [(9, _), (4, _), (8, _), (10, _), (7, _), (6, _), (2, _), (0, _), (1, _)]) (pc := 156) G dX5_levels_156 3 rfl (by decide) rfl ?_
                      refine wp_goto (tgt := 52) (pc := 159) G dX5_levels_159 (by decide) ?_
                      refine wp_sub (L' := [(9, _), (8, _), (4, _), (7, _), (6, _), (2, _), (0, _), (1, _)]) [0, 2, 1, 4, 5, 6, 7, 8] rfl ?_
                      first
                        | exact absurd h_127 h_143
                        | exact absurd h_143 h_127
                        | exact ih2 (c + 1) q2 _ _ (by omega) (by omega) (hf2.s1 (by decide)) hq2 (by rw [hs_step hc.1, if_pos h_127]; omega) (by
                            show M2 14 0 + 1 = _
                            rw [bl_step hc.1, if_pos h_127]; omega)
                        | exact ih2 (c + 1) q2 _ _ (by omega) (by omega) (hf2.s1 (by decide)) hq2 (by rw [hs_step hc.1, if_neg h_127]; omega) (by
                            show M2 14 0 + 0 = _
                            rw [bl_step hc.1, if_neg h_127]; omega)
                  · have h_127 := hr.t h_127
                    refine wp_lconst1 (pc := 130) G dX5_levels_130 ?_
                    refine wp_goto (tgt := 135) (pc := 131) G dX5_levels_131 (by decide) ?_
                    refine wp_ladd (pc := 135) G dX5_levels_135 ?_
                    refine wm_put_14 (pc := 136) G dX5_levels_136 fX5_155_4 ?_
                    refine wp_lload (pc := 139) G dX5_levels_139 3 rfl ?_
                    refine wp_iload (pc := 141) G dX5_levels_141 1 rfl ?_
                    refine wp_if_eq (tgt := 152) (pc := 143) G dX5_levels_143 hr.r (by decide) (fun h_143 => ?_) (fun h_143 => ?_)
                    · have h_143 := hr.f h_143
                      refine wp_lconst0 (pc := 152) G dX5_levels_152 ?_
                      refine wp_ladd (pc := 153) G dX5_levels_153 ?_
                      refine wp_lstore (L' := [(4, _), (8, _), (10, _), (9, _), (7, _), (6, _), (2, _), (0, _), (1, _)]) (pc := 154) G dX5_levels_154 (by decide) rfl ?_
                      refine wp_iinc (L' := [(9, _), (4, _), (8, _), (10, _), (7, _), (6, _), (2, _), (0, _), (1, _)]) (pc := 156) G dX5_levels_156 3 rfl (by decide) rfl ?_
                      refine wp_goto (tgt := 52) (pc := 159) G dX5_levels_159 (by decide) ?_
                      refine wp_sub (L' := [(9, _), (8, _), (4, _), (7, _), (6, _), (2, _), (0, _), (1, _)]) [0, 2, 1, 4, 5, 6, 7, 8] rfl ?_
                      first
                        | exact absurd h_127 h_143
                        | exact absurd h_143 h_127
                        | exact ih2 (c + 1) q2 _ _ (by omega) (by omega) (hf2.s1 (by decide)) hq2 (by rw [hs_step hc.1, if_pos h_127]; omega) (by
                            show M2 14 0 + 1 = _
                            rw [bl_step hc.1, if_pos h_127]; omega)
                        | exact ih2 (c + 1) q2 _ _ (by omega) (by omega) (hf2.s1 (by decide)) hq2 (by rw [hs_step hc.1, if_neg h_127]; omega) (by
                            show M2 14 0 + 0 = _
                            rw [bl_step hc.1, if_neg h_127]; omega)
                    · have h_143 := hr.t h_143
                      refine wp_iload (pc := 146) G dX5_levels_146 4 rfl ?_
                      refine wp_i2l (pc := 148) G dX5_levels_148 (by omega) ?_
                      refine wp_goto (tgt := 153) (pc := 149) G dX5_levels_149 (by decide) ?_
                      refine wp_ladd (pc := 153) G dX5_levels_153 ?_
                      refine wp_lstore (L' := [(4, _), (8, _), (10, _), (9, _), (7, _), (6, _), (2, _), (0, _), (1, _)]) (pc := 154) G dX5_levels_154 (by decide) rfl ?_
                      refine wp_iinc (L' := [(9, _), (4, _), (8, _), (10, _), (7, _), (6, _), (2, _), (0, _), (1, _)]) (pc := 156) G dX5_levels_156 3 rfl (by decide) rfl ?_
                      refine wp_goto (tgt := 52) (pc := 159) G dX5_levels_159 (by decide) ?_
                      refine wp_sub (L' := [(9, _), (8, _), (4, _), (7, _), (6, _), (2, _), (0, _), (1, _)]) [0, 2, 1, 4, 5, 6, 7, 8] rfl ?_
                      first
                        | exact absurd h_127 h_143
                        | exact absurd h_143 h_127
                        | exact ih2 (c + 1) q2 _ _ (by omega) (by omega) (hf2.s1 (by decide)) hq2 (by rw [hs_step hc.1, if_pos h_127]; omega) (by
                            show M2 14 0 + 1 = _
                            rw [bl_step hc.1, if_pos h_127]; omega)
                        | exact ih2 (c + 1) q2 _ _ (by omega) (by omega) (hf2.s1 (by decide)) hq2 (by rw [hs_step hc.1, if_neg h_127]; omega) (by
                            show M2 14 0 + 0 = _
                            rw [bl_step hc.1, if_neg h_127]; omega)
                have J86 : ∀ (r : Int), (isB r (inS m c ∧ hgt (M 0) c = v)) → Wp g F [MB g ad M2] 0 0 86 [(9, iV c), (8, iV q), (4, jV S), (7, iV v), (6, iV 0), (2, jV m), (0, .ref (ad 25)), (1, iV k)] [iV r] := by
                  intro r hr
                  refine wp_istore (L' := [(10, _), (9, _), (8, _), (4, _), (7, _), (6, _), (2, _), (0, _), (1, _)]) (pc := 86) G dX5_levels_86 (by decide) rfl ?_
                  refine wp_iload (pc := 88) G dX5_levels_88 2 rfl ?_
                  refine wp_if_ne (tgt := 113) (pc := 90) G dX5_levels_90 hq.r (by decide) (fun h_90 => ?_) (fun h_90 => ?_)
                  · have h_90 := hq.t h_90
                    refine wp_iconst (pc := 113) G dX5_levels_113 ?_
                    refine wp_goto (tgt := 118) (pc := 114) G dX5_levels_114 (by decide) ?_
                    first
                      | exact J118 r 1 hr (isB.i1 (by obtain ⟨x, hx, hx2⟩ := h_90; exact ⟨x, by omega, hx2⟩))
                      | exact J118 r 1 hr (isB.i1 ⟨c, by omega, h_99, by omega⟩)
                      | exact J118 r 0 hr (isB.i0 (by
                          rintro ⟨x, hx, hx2, hx3⟩
                          by_cases e : x = c
                          · subst e; first | exact h_99 hx2 | omega
                          · exact h_90 ⟨x, by omega, hx2, hx3⟩))
                  · have h_90 := hq.f h_90
                    refine wp_lload_n (pc := 93) G dX5_levels_93 rfl 6 rfl ?_
                    refine wp_iload (pc := 94) G dX5_levels_94 1 rfl ?_
                    refine ws_calli2 (pc := 96) G dX5_levels_96 kX5_91 (ct_has hg hm2 (by omega)) (by decide) (by decide) (Nat.le_of_ble_eq_true rfl) (fun z_96 h_96 => ?_)
                    refine wp_if_eq (tgt := 117) (pc := 99) G dX5_levels_99 h_96.r (by decide) (fun h_99 => ?_) (fun h_99 => ?_)
                    · have h_99 := h_96.f h_99
                      refine wp_iconst (pc := 117) G dX5_levels_117 ?_
                      first
                        | exact J118 r 1 hr (isB.i1 (by obtain ⟨x, hx, hx2⟩ := h_90; exact ⟨x, by omega, hx2⟩))
                        | exact J118 r 1 hr (isB.i1 ⟨c, by omega, h_99, by omega⟩)
                        | exact J118 r 0 hr (isB.i0 (by
                            rintro ⟨x, hx, hx2, hx3⟩
                            by_cases e : x = c
                            · subst e; first | exact h_99 hx2 | omega
                            · exact h_90 ⟨x, by omega, hx2, hx3⟩))
                    · have h_99 := h_96.t h_99
                      refine wp_aload_n (pc := 102) G dX5_levels_102 rfl 7 rfl ?_
                      refine wp_iload (pc := 103) G dX5_levels_103 1 rfl ?_
                      refine wm_calli1 (pc := 105) G dX5_levels_105 kX5_87 (ct_height hg (by omega)) (by decide) (by decide) (Nat.le_of_ble_eq_true rfl) (fun z_105 M_105 h_105 => ?_)
                      obtain ⟨rfl, h_105⟩ := h_105
                      rw [hz2] at h_105
                      subst h_105
                      have hh := hL.hg (c := c) (by omega)
                      refine wp_iload (pc := 108) G dX5_levels_108 4 rfl ?_
                      refine wp_icmp_le (tgt := 117) (pc := 110) G dX5_levels_110 (by omega) (by omega) (by decide) (fun h_110 => ?_) (fun h_110 => ?_)
                      · refine wp_iconst (pc := 117) G dX5_levels_117 ?_
                        first
                          | exact J118 r 1 hr (isB.i1 (by obtain ⟨x, hx, hx2⟩ := h_90; exact ⟨x, by omega, hx2⟩))
                          | exact J118 r 1 hr (isB.i1 ⟨c, by omega, h_99, by omega⟩)
                          | exact J118 r 0 hr (isB.i0 (by
                              rintro ⟨x, hx, hx2, hx3⟩
                              by_cases e : x = c
                              · subst e; first | exact h_99 hx2 | omega
                              · exact h_90 ⟨x, by omega, hx2, hx3⟩))
                      · refine wp_iconst (pc := 113) G dX5_levels_113 ?_
                        refine wp_goto (tgt := 118) (pc := 114) G dX5_levels_114 (by decide) ?_
                        first
                          | exact J118 r 1 hr (isB.i1 (by obtain ⟨x, hx, hx2⟩ := h_90; exact ⟨x, by omega, hx2⟩))
                          | exact J118 r 1 hr (isB.i1 ⟨c, by omega, h_99, by omega⟩)
                          | exact J118 r 0 hr (isB.i0 (by
                              rintro ⟨x, hx, hx2, hx3⟩
                              by_cases e : x = c
                              · subst e; first | exact h_99 hx2 | omega
                              · exact h_90 ⟨x, by omega, hx2, hx3⟩))
                refine wp_lload_n (pc := 61) G dX5_levels_61 rfl 5 rfl ?_
                refine wp_iload (pc := 62) G dX5_levels_62 0 rfl ?_
                refine ws_calli2 (pc := 64) G dX5_levels_64 kX5_91 (ct_has hg hm2 (by omega)) (by decide) (by decide) (Nat.le_of_ble_eq_true rfl) (fun z_64 h_64 => ?_)
                refine wp_if_eq (tgt := 85) (pc := 67) G dX5_levels_67 h_64.r (by decide) (fun h_67 => ?_) (fun h_67 => ?_)
                · have h_67 := h_64.f h_67
                  refine wp_iconst (pc := 85) G dX5_levels_85 ?_
                  first
                    | exact J86 1 (isB.i1 ⟨h_67, h_78⟩)
                    | exact J86 0 (isB.i0 (fun q => h_67 q.1))
                    | exact J86 0 (isB.i0 (fun q => h_78 q.2))
                · have h_67 := h_64.t h_67
                  refine wp_aload_n (pc := 70) G dX5_levels_70 rfl 6 rfl ?_
                  refine wp_iload (pc := 71) G dX5_levels_71 0 rfl ?_
                  refine wm_calli1 (pc := 73) G dX5_levels_73 kX5_87 (ct_height hg (by omega)) (by decide) (by decide) (Nat.le_of_ble_eq_true rfl) (fun z_73 M_73 h_73 => ?_)
                  obtain ⟨rfl, h_73⟩ := h_73
                  rw [hz2] at h_73
                  subst h_73
                  have hh := hL.hg (c := c) (by omega)
                  refine wp_iload (pc := 76) G dX5_levels_76 3 rfl ?_
                  refine wp_icmp_ne (tgt := 85) (pc := 78) G dX5_levels_78 (by omega) (by omega) (by decide) (fun h_78 => ?_) (fun h_78 => ?_)
                  · refine wp_iconst (pc := 85) G dX5_levels_85 ?_
                    first
                      | exact J86 1 (isB.i1 ⟨h_67, h_78⟩)
                      | exact J86 0 (isB.i0 (fun q => h_67 q.1))
                      | exact J86 0 (isB.i0 (fun q => h_78 q.2))
                  · refine wp_iconst (pc := 81) G dX5_levels_81 ?_
                    refine wp_goto (tgt := 86) (pc := 82) G dX5_levels_82 (by decide) ?_
                    first
                      | exact J86 1 (isB.i1 ⟨h_67, h_78⟩)
                      | exact J86 0 (isB.i0 (fun q => h_67 q.1))
                      | exact J86 0 (isB.i0 (fun q => h_78 q.2))
          exact inner 37 0 0 S M1 (by omega) (by omega) hf (isB.i0 (by rintro ⟨x, hx, -⟩; omega)) (by
            rw [eS]
            show _ = vol + hsZ (M 0) m v + (0 - 0)
            omega) (by
            rw [eB]
            show _ = blZ (M 0) m v + (0 - 0)
            omega)
  refine wp_aload_n (pc := 0) G dX5_levels_0 rfl 0 rfl ?_
  refine wm_get_0 (pc := 1) G dX5_levels_1 fX5_7_4 ?_
  refine wp_sipush (pc := 4) G dX5_levels_4 (by decide) ?_
  refine wp_iload_n (pc := 7) G dX5_levels_7 rfl 1 rfl ?_
  refine wp_iadd (pc := 8) G dX5_levels_8 ?_
  refine wm_ald_0 (pc := 9) G dX5_levels_9 (by omega) ?_
  show Wp g F _ 0 0 (9 + 1) _ (jV (M 0 (152 + k)) :: [])
  rw [hm]
  refine wp_lstore_n (L' := [(2, _), (0, _), (1, _)]) (pc := 10) G dX5_levels_10 rfl (by decide) rfl ?_
  refine wp_aload_n (pc := 11) G dX5_levels_11 rfl 1 rfl ?_
  refine wm_get_0 (pc := 12) G dX5_levels_12 fX5_7_4 ?_
  refine wp_sipush (pc := 15) G dX5_levels_15 (by decide) ?_
  refine wp_iload_n (pc := 18) G dX5_levels_18 rfl 2 rfl ?_
  refine wp_iadd (pc := 19) G dX5_levels_19 ?_
  refine wm_ald_0 (pc := 20) G dX5_levels_20 (by omega) ?_
  show Wp g F _ 0 0 (20 + 1) _ (jV (M 0 (224 + k)) :: [])
  rw [hvol]
  refine wp_lstore (L' := [(4, _), (2, _), (0, _), (1, _)]) (pc := 21) G dX5_levels_21 (by decide) rfl ?_
  refine wp_aload_n (pc := 23) G dX5_levels_23 rfl 2 rfl ?_
  refine wp_lconst0 (pc := 24) G dX5_levels_24 ?_
  refine wm_put_14 (pc := 25) G dX5_levels_25 fX5_155_4 ?_
  refine wp_iconst (pc := 28) G dX5_levels_28 ?_
  refine wp_istore (L' := [(6, _), (4, _), (2, _), (0, _), (1, _)]) (pc := 29) G dX5_levels_29 (by decide) rfl ?_
  refine wp_iconst (pc := 31) G dX5_levels_31 ?_
  refine wp_istore (L' := [(7, _), (6, _), (4, _), (2, _), (0, _), (1, _)]) (pc := 32) G dX5_levels_32 (by decide) rfl ?_
  exact loop 101 0 vol 0 _ (by omega) (by omega) (fr.rf.s1 (by decide)) (Or.inl ⟨rfl, by unfold hsZ; rw [(bl_0 hL _ (by omega)).2]; omega, by unfold blZ; rw [(bl_0 hL _ (by omega)).1]; rfl, fun u hu => by omega⟩)
