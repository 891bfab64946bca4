/-! THE MODEL: remembers, changes -/
set_option maxRecDepth 100000
/-- what is remembered of the lakes -/
def remP (M M' : Nat → Int → Int) : Prop := fr [11, 12, 15, 16, 17] M M' ∧ M' 17 0 = nL (M 0) ∧ ∀ n, 0 ≤ n ∧ n < nL (M 0) → M' 15 n = M 0 (224 + ordK (M 0) n) ∧ M' 16 n = lpZ (M 0) (M 0 (152 + ordK (M 0) n))
theorem chR_p {az P V Z : Int → Int} {n : Nat} (h : okA az) (hV : ∀ i : Int, 0 ≤ i ∧ i < n → 0 ≤ V i) (hZ : chR az P V n Z) : okA Z ∧ sameB az Z ∧ Z 4 = az 4 ∧ Z 5 = az 5 ∧ waterZ Z + Z 3 = waterZ az + az 3 + sm V n ∧ az 3 ≤ Z 3 ∧ 0 ≤ waterZ Z := by
  obtain ⟨Z2, z1, z2⟩ := chR_ok (P := P) h n hV
  rw [chR_u n Z Z2 hZ z1]
  exact z2
theorem sm_mono {f : Int → Int} {a b : Nat} (hab : a ≤ b) (h : ∀ i : Int, 0 ≤ i ∧ i < b → 0 ≤ f i) : sm f a ≤ sm f b := by
  obtain ⟨d, rfl⟩ : ∃ d, b = a + d := ⟨b - a, by omega⟩
  clear hab
  induction d with
  | zero => exact Int.le_refl _
  | succ d ih =>
    have h1 := ih (fun i hi => h i (by omega))
    have h2 := h (a + d : Nat) (by omega)
    show sm f a ≤ sm f (a + d) + f (a + d : Nat)
    omega
set_option maxHeartbeats 4000000 in
theorem ct_remembers {g : GV} (hg : GOk g) {ad : Nat → Nat} {M : Nat → Int → Int} (hA : okA (M 0)) (hw : waterZ (M 0) ≤ 4000000) : CMv g ad yX5_remembers cX5_remembers 5 3 [] M (fun M' => remP M M') := by
  refine wm_ofv hg (by decide +kernel) (Nat.le_of_ble_eq_true rfl) (fun F G R9 => ?_)
  have G : FxOk g F cX5_remembers RX5 5 3 := G
  refine wp_loc (L' := [(0, _)]) rfl ?_
  have hmm := hA.L.m
  have hnL := nL_r hA.L
  have loop : ∀ (n : Nat) (i : Int) (M1 : Nat → Int → Int), (0 ≤ i ∧ i ≤ nL (M 0)) → (nL (M 0) + 1 ≤ i + n) → (fr [11, 12, 15, 16, 17] M M1) → (∀ j, 0 ≤ j ∧ j < nL (M 0) → M1 11 j = ordK (M 0) j) → (M1 12 0 = nL (M 0)) → (M1 17 0 = nL (M 0)) → (∀ j, 0 ≤ j ∧ j < i → M1 15 j = M 0 (224 + ordK (M 0) j) ∧ M1 16 j = lpZ (M 0) (M 0 (152 + ordK (M 0) j))) → Wp g F [MB g ad M1] 0 0 14 [(1, iV i), (0, .ref (ad 25))] [] := by
    intro n
    induction n with
    | zero =>
      intro i M1 hi hn hf ho h12 h17 hp
      exfalso
      omega
    | succ n ih =>
      intro i M1 hi hn hf ho h12 h17 hp
      have z1 : M1 0 = M 0 := hf 0 (by decide)
      refine wp_iload_n (pc := 14) G dX5_remembers_14 rfl 0 rfl ?_
      refine wp_aload_n (pc := 15) G dX5_remembers_15 rfl 1 rfl ?_
      refine wm_get_12 (pc := 16) G dX5_remembers_16 fX5_149_4 ?_
      refine wp_icmp_ge (tgt := 124) (pc := 19) G dX5_remembers_19 (by omega) (by omega) (by decide) (fun h_19 => ?_) (fun h_19 => ?_)
      · exact wm_vret (pc := 124) G R9 dX5_remembers_124 ⟨hf, h17, fun j hj => hp j (by omega)⟩
      · have hk := ordK_k hA.L (n := i) (by omega)
        have hk1 := hk.1
        have hmk := (hA.S _ hk.1).1
        have o1 := ho i (by omega)
        refine wp_aload_n (pc := 22) G dX5_remembers_22 rfl 1 rfl ?_
        refine wm_get_15 (pc := 23) G dX5_remembers_23 fX5_32_4 ?_
        refine wp_iload_n (pc := 26) G dX5_remembers_26 rfl 0 rfl ?_
        refine wp_aload_n (pc := 27) G dX5_remembers_27 rfl 1 rfl ?_
        refine wm_get_0 (pc := 28) G dX5_remembers_28 fX5_7_4 ?_
        refine wp_sipush (pc := 31) G dX5_remembers_31 (by decide) ?_
        refine wp_aload_n (pc := 34) G dX5_remembers_34 rfl 1 rfl ?_
        refine wm_get_11 (pc := 35) G dX5_remembers_35 fX5_29_4 ?_
        refine wp_iload_n (pc := 38) G dX5_remembers_38 rfl 0 rfl ?_
        refine wm_ald_11 (pc := 39) G dX5_remembers_39 (by omega) ?_
        rw [o1]
        refine wp_iadd (pc := 40) G dX5_remembers_40 ?_
        refine wm_ald_0 (pc := 41) G dX5_remembers_41 (by omega) ?_
        rw [z1]
        refine wm_ast_15 (pc := 42) G dX5_remembers_42 (by omega) ?_
        obtain ⟨M2, hM2⟩ : ∃ X, X = ma1 M1 15 i (M 0 (224 + ordK (M 0) i)) := ⟨_, rfl⟩
        rw [← hM2]
        have z2 : M2 0 = M 0 := by rw [hM2]; exact z1
        have o2a : ∀ j, 0 ≤ j ∧ j < nL (M 0) → M2 11 j = ordK (M 0) j := fun j hj => by rw [← ho j hj, hM2]; rfl
        have o2 := o2a i (by omega)
        have hf2 : fr [11, 12, 15, 16, 17] M M2 := by rw [hM2]; exact hf.a1 (by decide)
        refine wp_iconst (pc := 43) G dX5_remembers_43 ?_
        refine wp_istore_n (L' := [(2, _), (1, _), (0, _)]) (pc := 44) G dX5_remembers_44 rfl (by decide) rfl ?_
        refine wp_iconst (pc := 45) G dX5_remembers_45 ?_
        refine wp_istore_n (L' := [(3, _), (2, _), (1, _), (0, _)]) (pc := 46) G dX5_remembers_46 rfl (by decide) rfl ?_
        refine wp_sub (L' := [(2, _), (3, _), (0, _), (1, _)]) [1, 0, 3, 2] rfl ?_
        have inner : ∀ (n : Nat) (c b : Int), (0 ≤ c ∧ c ≤ mny (M 0)) → (mny (M 0) + 1 ≤ c + n) → (b = lpF (M 0) (M 0 (152 + ordK (M 0) i)) c.toNat) → Wp g F [MB g ad M2] 0 0 47 [(2, iV b), (3, iV c), (0, .ref (ad 25)), (1, iV i)] [] := by
          intro n
          induction n with
          | zero =>
            intro c b hc hn2 hb
            exfalso
            omega
          | succ n ih2 =>
            intro c b hc hn2 hb
            refine wp_iload_n (pc := 47) G dX5_remembers_47 rfl 1 rfl ?_
            refine wp_aload_n (pc := 48) G dX5_remembers_48 rfl 2 rfl ?_
            refine wm_calli0 (pc := 49) G dX5_remembers_49 kX5_61 (ct_many hg) (by decide) (by decide) (Nat.le_of_ble_eq_true rfl) (fun z_49 M_49 h_49 => ?_)
            obtain ⟨rfl, h_49⟩ := h_49
            rw [z2] at h_49
            subst h_49
            refine wp_icmp_ge (tgt := 111) (pc := 52) G dX5_remembers_52 (by omega) (by omega) (by decide) (fun h_52 => ?_) (fun h_52 => ?_)
            · refine wp_aload_n (pc := 111) G dX5_remembers_111 rfl 2 rfl ?_
              refine wm_get_16 (pc := 112) G dX5_remembers_112 fX5_35_4 ?_
              refine wp_iload_n (pc := 115) G dX5_remembers_115 rfl 3 rfl ?_
              refine wp_iload_n (pc := 116) G dX5_remembers_116 rfl 0 rfl ?_
              refine wm_ast_16 (pc := 117) G dX5_remembers_117 (by omega) ?_
              refine wp_iinc (L' := [(1, _), (2, _), (3, _), (0, _)]) (pc := 118) G dX5_remembers_118 3 rfl (by decide) rfl ?_
              refine wp_goto (tgt := 14) (pc := 121) G dX5_remembers_121 (by decide) ?_
              refine wp_sub (L' := [(1, _), (0, _)]) [0, 3] rfl ?_
              refine ih (i + 1) _ (by omega) (by omega) ((hf2).a1 (by decide)) (fun j hj => by show M2 11 j = _; rw [o2a j hj]) (by show M2 12 0 = _; rw [← h12, hM2]; rfl) (by show M2 17 0 = _; rw [← h17, hM2]; rfl) (fun j hj => ?_)
              have e15 : M2 15 = fup (M1 15) i (M 0 (224 + ordK (M 0) i)) := by rw [hM2]; rfl
              have e16 : M2 16 = M1 16 := by rw [hM2]; rfl
              show M2 15 j = _ ∧ fup (M2 16) i b j = _
              rw [e15, e16]
              by_cases e : j = i
              · rw [e, fup_s, fup_s, hb, show c = mny (M 0) by omega]
                exact ⟨rfl, rfl⟩
              · rw [fup_n _ _ e, fup_n _ _ e]
                exact hp j (by omega)
            · refine wp_aload_n (pc := 55) G dX5_remembers_55 rfl 2 rfl ?_
              refine wm_get_0 (pc := 56) G dX5_remembers_56 fX5_7_4 ?_
              refine wp_sipush (pc := 59) G dX5_remembers_59 (by decide) ?_
              refine wp_aload_n (pc := 62) G dX5_remembers_62 rfl 2 rfl ?_
              refine wm_get_11 (pc := 63) G dX5_remembers_63 fX5_29_4 ?_
              refine wp_iload_n (pc := 66) G dX5_remembers_66 rfl 3 rfl ?_
              refine wm_ald_11 (pc := 67) G dX5_remembers_67 (by omega) ?_
              rw [o2]
              refine wp_iadd (pc := 68) G dX5_remembers_68 ?_
              refine wm_ald_0 (pc := 69) G dX5_remembers_69 (by omega) ?_
              rw [z2]
              refine wp_iload_n (pc := 70) G dX5_remembers_70 rfl 1 rfl ?_
              refine ws_calli2 (pc := 71) G dX5_remembers_71 kX5_91 (ct_has hg (by omega) (by omega)) (by decide) (by decide) (Nat.le_of_ble_eq_true rfl) (fun z_71 h_71 => ?_)
              refine wp_istore (L' := [(4, _), (2, _), (3, _), (0, _), (1, _)]) (pc := 74) G dX5_remembers_74 (by decide) rfl ?_
              refine wp_iload (pc := 76) G dX5_remembers_76 0 rfl ?_
              refine wp_if_eq (tgt := 103) (pc := 78) G dX5_remembers_78 h_71.r (by decide) (fun h_78 => ?_) (fun h_78 => ?_)
              · have h_78 := h_71.f h_78
                refine wp_iload_n (pc := 103) G dX5_remembers_103 rfl 1 rfl ?_
                refine wp_istore_n (L' := [(2, _), (4, _), (3, _), (0, _), (1, _)]) (pc := 104) G dX5_remembers_104 rfl (by decide) rfl ?_
                refine wp_iinc (L' := [(3, _), (2, _), (4, _), (0, _), (1, _)]) (pc := 105) G dX5_remembers_105 2 rfl (by decide) rfl ?_
                refine wp_goto (tgt := 47) (pc := 108) G dX5_remembers_108 (by decide) ?_
                refine wp_sub (L' := [(2, _), (3, _), (0, _), (1, _)]) [1, 0, 3, 4] rfl ?_
                first
                  | exact ih2 (c + 1) c (by omega) (by omega) (by rw [lpF_s hc.1, ← hb]; exact (if_pos ⟨h_78, by first | exact Or.inl h_83 | exact Or.inr h_96⟩).symm)
                  | exact ih2 (c + 1) b (by omega) (by omega) (by rw [lpF_s hc.1, ← hb]; exact (if_neg (fun q => by first | exact h_78 q.1 | (have := q.2; omega))).symm)
              · have h_78 := h_71.t h_78
                have hcb := lpF_r (az := M 0) (m := M 0 (152 + ordK (M 0) i)) c.toNat
                rw [← hb] at hcb
                have hh1 := hA.L.hg (c := c) (by omega)
                refine wp_iload_n (pc := 81) G dX5_remembers_81 rfl 1 rfl ?_
                refine wp_iconst (pc := 82) G dX5_remembers_82 ?_
                refine wp_icmp_eq (tgt := 99) (pc := 83) G dX5_remembers_83 (by omega) (by omega) (by decide) (fun h_83 => ?_) (fun h_83 => ?_)
                · refine wp_iload_n (pc := 99) G dX5_remembers_99 rfl 2 rfl ?_
                  refine wp_goto (tgt := 104) (pc := 100) G dX5_remembers_100 (by decide) ?_
                  refine wp_istore_n (L' := [(2, _), (4, _), (3, _), (0, _), (1, _)]) (pc := 104) G dX5_remembers_104 rfl (by decide) rfl ?_
                  refine wp_iinc (L' := [(3, _), (2, _), (4, _), (0, _), (1, _)]) (pc := 105) G dX5_remembers_105 2 rfl (by decide) rfl ?_
                  refine wp_goto (tgt := 47) (pc := 108) G dX5_remembers_108 (by decide) ?_
                  refine wp_sub (L' := [(2, _), (3, _), (0, _), (1, _)]) [1, 0, 3, 4] rfl ?_
                  first
                    | exact ih2 (c + 1) c (by omega) (by omega) (by rw [lpF_s hc.1, ← hb]; exact (if_pos ⟨h_78, by first | exact Or.inl h_83 | exact Or.inr h_96⟩).symm)
                    | exact ih2 (c + 1) b (by omega) (by omega) (by rw [lpF_s hc.1, ← hb]; exact (if_neg (fun q => by first | exact h_78 q.1 | (have := q.2; omega))).symm)
                · have hh2 := hA.L.hg (c := b) (by omega)
                  refine wp_aload_n (pc := 86) G dX5_remembers_86 rfl 3 rfl ?_
                  refine wp_iload_n (pc := 87) G dX5_remembers_87 rfl 2 rfl ?_
                  refine wm_calli1 (pc := 88) G dX5_remembers_88 kX5_87 (ct_height hg (by omega)) (by decide) (by decide) (Nat.le_of_ble_eq_true rfl) (fun z_88 M_88 h_88 => ?_)
                  obtain ⟨rfl, h_88⟩ := h_88
                  rw [z2] at h_88
                  subst h_88
                  refine wp_aload_n (pc := 91) G dX5_remembers_91 rfl 3 rfl ?_
                  refine wp_iload_n (pc := 92) G dX5_remembers_92 rfl 1 rfl ?_
                  refine wm_calli1 (pc := 93) G dX5_remembers_93 kX5_87 (ct_height hg (by omega)) (by decide) (by decide) (Nat.le_of_ble_eq_true rfl) (fun z_93 M_93 h_93 => ?_)
                  obtain ⟨rfl, h_93⟩ := h_93
                  rw [z2] at h_93
                  subst h_93
                  refine wp_icmp_ge (tgt := 103) (pc := 96) G dX5_remembers_96 (by omega) (by omega) (by decide) (fun h_96 => ?_) (fun h_96 => ?_)
                  · refine wp_iload_n (pc := 103) G dX5_remembers_103 rfl 1 rfl ?_
                    refine wp_istore_n (L' := [(2, _), (4, _), (3, _), (0, _), (1, _)]) (pc := 104) G dX5_remembers_104 rfl (by decide) rfl ?_
                    refine wp_iinc (L' := [(3, _), (2, _), (4, _), (0, _), (1, _)]) (pc := 105) G dX5_remembers_105 2 rfl (by decide) rfl ?_
                    refine wp_goto (tgt := 47) (pc := 108) G dX5_remembers_108 (by decide) ?_
                    refine wp_sub (L' := [(2, _), (3, _), (0, _), (1, _)]) [1, 0, 3, 4] rfl ?_
                    first
                      | exact ih2 (c + 1) c (by omega) (by omega) (by rw [lpF_s hc.1, ← hb]; exact (if_pos ⟨h_78, by first | exact Or.inl h_83 | exact Or.inr h_96⟩).symm)
                      | exact ih2 (c + 1) b (by omega) (by omega) (by rw [lpF_s hc.1, ← hb]; exact (if_neg (fun q => by first | exact h_78 q.1 | (have := q.2; omega))).symm)
                  · refine wp_iload_n (pc := 99) G dX5_remembers_99 rfl 2 rfl ?_
                    refine wp_goto (tgt := 104) (pc := 100) G dX5_remembers_100 (by decide) ?_
                    refine wp_istore_n (L' := [(2, _), (4, _), (3, _), (0, _), (1, _)]) (pc := 104) G dX5_remembers_104 rfl (by decide) rfl ?_
                    refine wp_iinc (L' := [(3, _), (2, _), (4, _), (0, _), (1, _)]) (pc := 105) G dX5_remembers_105 2 rfl (by decide) rfl ?_
                    refine wp_goto (tgt := 47) (pc := 108) G dX5_remembers_108 (by decide) ?_
                    refine wp_sub (L' := [(2, _), (3, _), (0, _), (1, _)]) [1, 0, 3, 4] rfl ?_
                    first
                      | exact ih2 (c + 1) c (by omega) (by omega) (by rw [lpF_s hc.1, ← hb]; exact (if_pos ⟨h_78, by first | exact Or.inl h_83 | exact Or.inr h_96⟩).symm)
                      | exact ih2 (c + 1) b (by omega) (by omega) (by rw [lpF_s hc.1, ← hb]; exact (if_neg (fun q => by first | exact h_78 q.1 | (have := q.2; omega))).symm)
        exact inner 38 0 (-1) (by omega) (by omega) rfl
  refine wp_aload_n (pc := 0) G dX5_remembers_0 rfl 0 rfl ?_
  refine wm_callv0 (pc := 1) G dX5_remembers_1 kX5_152 (ct_orders hg hA.L (hA.K hw)) (by decide) (by decide) (Nat.le_of_ble_eq_true rfl) (fun M_1 h_1 => ?_)
  refine wp_aload_n (pc := 4) G dX5_remembers_4 rfl 0 rfl ?_
  refine wp_aload_n (pc := 5) G dX5_remembers_5 rfl 0 rfl ?_
  refine wm_get_12 (pc := 6) G dX5_remembers_6 fX5_149_4 ?_
  refine wm_put_17 (pc := 9) G dX5_remembers_9 fX5_171_4 ?_
  refine wp_iconst (pc := 12) G dX5_remembers_12 ?_
  refine wp_istore_n (L' := [(1, _), (0, _)]) (pc := 13) G dX5_remembers_13 rfl (by decide) rfl ?_
  exact loop 38 0 _ (by omega) (by omega) ((h_1.1.up (by decide)).s1 (by decide)) (fun j hj => ordK_e hA.L h_1 hj) h_1.2.1 h_1.2.1 (fun j hj => by omega)
set_option maxHeartbeats 4000000 in
theorem ct_changes {g : GV} (hg : GOk g) {ad : Nat → Nat} {M : Nat → Int → Int} (hL : okL (M 0)) {N : Int} (hN : M 17 0 = N) (hN2 : 0 ≤ N ∧ N ≤ 36) (hV : ∀ j, 0 ≤ j ∧ j < N → 0 ≤ M 15 j) (hP : ∀ j, 0 ≤ j ∧ j < N → isC (M 0) (M 16 j)) (hs : sm (M 15) N.toNat ≤ 2000000) : CMv g ad yX5_changes cX5_changes 2 8 [] M (fun M' => fr [0, 5, 6, 7, 8] M M' ∧ ∃ A, Found (M 0) A ∧ chR A (M 16) (M 15) N.toNat (M' 0)) := by
  refine wm_ofv hg (by decide +kernel) (Nat.le_of_ble_eq_true rfl) (fun F G R9 => ?_)
  have G : FxOk g F cX5_changes RX5 2 8 := G
  refine wp_loc (L' := [(0, _)]) rfl ?_
  refine wp_aload_n (pc := 0) G dX5_changes_0 rfl 0 rfl ?_
  refine wm_callv0 (pc := 1) G dX5_changes_1 kX5_174 (ct_finds hg hL) (by decide) (by decide) (Nat.le_of_ble_eq_true rfl) (fun M_1 h_1 => ?_)
  obtain ⟨hf1, hfo⟩ := h_1
  have hA1 := hfo.A hL
  have hw1 := hfo.w
  have hS1 := hfo.same hL
  refine wp_iconst (pc := 4) G dX5_changes_4 ?_
  refine wp_istore_n (L' := [(1, _), (0, _)]) (pc := 5) G dX5_changes_5 rfl (by decide) rfl ?_
  have loop : ∀ (n : Nat) (i : Int) (M1 : Nat → Int → Int), (0 ≤ i ∧ i ≤ N) → (N + 1 ≤ i + n) → (fr [0, 6, 7, 8] M_1 M1) → (chR (M_1 0) (M 16) (M 15) i.toNat (M1 0)) → Wp g F [MB g ad M1] 0 0 6 [(1, iV i), (0, .ref (ad 25))] [] := by
    intro n
    induction n with
    | zero =>
      intro i M1 hi hn hf hZ
      exfalso
      omega
    | succ n ih =>
      intro i M1 hi hn hf hZ
      have hV2 : ∀ j : Int, 0 ≤ j ∧ j < (i.toNat : Int) → 0 ≤ M 15 j := fun j hj => hV j (by omega)
      obtain ⟨y2, y3, y4, y5, y6, y7, y8⟩ := chR_p hA1 hV2 hZ
      have m16 : M1 16 = M 16 := by rw [hf 16 (by decide), hf1 16 (by decide)]
      have m15 : M1 15 = M 15 := by rw [hf 15 (by decide), hf1 15 (by decide)]
      have m17 : M1 17 0 = N := by rw [hf 17 (by decide), hf1 17 (by decide)]; exact hN
      refine wp_iload_n (pc := 6) G dX5_changes_6 rfl 0 rfl ?_
      refine wp_aload_n (pc := 7) G dX5_changes_7 rfl 1 rfl ?_
      refine wm_get_17 (pc := 8) G dX5_changes_8 fX5_171_4 ?_
      refine wp_icmp_ge (tgt := 36) (pc := 11) G dX5_changes_11 (by omega) (by omega) (by decide) (fun h_11 => ?_) (fun h_11 => ?_)
      · exact wm_vret (pc := 36) G R9 dX5_changes_36 ⟨(hf1.up (by decide)).tr (hf.up (by decide)), M_1 0, hfo, by rw [show N = i by omega]; exact hZ⟩
      · have hsi : sm (M 15) (i.toNat + 1) ≤ sm (M 15) N.toNat := sm_mono (by omega) (fun j hj => hV j (by omega))
        have hsi2 : sm (M 15) (i.toNat + 1) = sm (M 15) i.toNat + M 15 i := by
          show _ + M 15 ((i.toNat : Nat) : Int) = _
          rw [show ((i.toNat : Nat) : Int) = i by omega]
        have hvi := hV i (by omega)
        have hs0 : 0 ≤ sm (M 15) i.toNat := by
          have := sm_mono (f := M 15) (a := 0) (b := i.toNat) (by omega) (fun j hj => hV j (by omega))
          exact this
        have hci : isC (M1 0) (M 16 i) := (y3.L.c _).mpr ((hS1.c _).mpr (hP i (by omega)))
        refine wp_aload_n (pc := 14) G dX5_changes_14 rfl 1 rfl ?_
        refine wp_aload_n (pc := 15) G dX5_changes_15 rfl 1 rfl ?_
        refine wm_get_16 (pc := 16) G dX5_changes_16 fX5_35_4 ?_
        refine wp_iload_n (pc := 19) G dX5_changes_19 rfl 0 rfl ?_
        refine wm_ald_16 (pc := 20) G dX5_changes_20 (by omega) ?_
        rw [m16]
        refine wp_aload_n (pc := 21) G dX5_changes_21 rfl 1 rfl ?_
        refine wm_get_15 (pc := 22) G dX5_changes_22 fX5_32_4 ?_
        refine wp_iload_n (pc := 25) G dX5_changes_25 rfl 0 rfl ?_
        refine wm_ald_15 (pc := 26) G dX5_changes_26 (by omega) ?_
        rw [m15]
        refine wm_callv2 (pc := 27) G dX5_changes_27 kX5_177 (ct_pours hg y2 hci (by omega) (by omega)) (by decide) (by decide) (Nat.le_of_ble_eq_true rfl) (fun M_27 h_27 => ?_)
        obtain ⟨hf27, p27⟩ := h_27
        refine wp_iinc (L' := [(1, _), (0, _)]) (pc := 30) G dX5_changes_30 0 rfl (by decide) rfl ?_
        refine wp_goto (tgt := 6) (pc := 33) G dX5_changes_33 (by decide) ?_
        refine ih (i + 1) M_27 (by omega) (by omega) (hf.tr hf27) ?_
        rw [tn_s hi.1]
        refine ⟨M1 0, hZ, ?_⟩
        rw [show ((i.toNat : Nat) : Int) = i by omega]
        exact p27
  exact loop 38 0 _ (by omega) (by omega) fr.rf rfl
