/-! THE CALLS OF THE MODEL: begin, setHeight, setDrain, setGate, random -/
set_option maxRecDepth 100000
/-- what any call may change besides what it's asked for -/
abbrev SC : List Nat := [2, 4, 5, 6, 7, 8, 9, 10, 11, 12, 13, 14, 15, 16, 17, 18, 19, 22, 23, 24]
/-- the state of before is saved, the text is the same -/
def mtd (M M' : Nat → Int → Int) : Prop := M' 4 0 = 0 ∧ M' 1 = saveM M 1 ∧ M' 3 = saveM M 3 ∧ M' 20 = M 20 ∧ M' 21 = M 21
/-- the first of three that doesn't hold is the k-th -/
def cod (P Q R : Prop) (k : Int) : Prop := (k = 1 ∧ ¬ P) ∨ (k = 2 ∧ P ∧ ¬ Q) ∨ (k = 3 ∧ P ∧ Q ∧ ¬ R)
theorem goes_c {p q r : Int} {P Q R : Prop} (hp : isB p P) (hq : isB q Q) (hr : isB r R) : (thr3 p q r ≠ 0 ∧ cod P Q R (thr3 p q r)) ∨ (thr3 p q r = 0 ∧ P ∧ Q ∧ R) := by
  rcases hp with ⟨p1, p2⟩ | ⟨p1, p2⟩ <;> rcases hq with ⟨q1, q2⟩ | ⟨q1, q2⟩ <;> rcases hr with ⟨r1, r2⟩ | ⟨r1, r2⟩ <;> rw [p1, q1, r1]
  · exact Or.inr ⟨rfl, p2, q2, r2⟩
  · exact Or.inl ⟨by decide, Or.inr (Or.inr ⟨rfl, p2, q2, r2⟩)⟩
  · exact Or.inl ⟨by decide, Or.inr (Or.inl ⟨rfl, p2, q2⟩)⟩
  · exact Or.inl ⟨by decide, Or.inr (Or.inl ⟨rfl, p2, q2⟩)⟩
  · exact Or.inl ⟨by decide, Or.inl ⟨rfl, p2⟩⟩
  · exact Or.inl ⟨by decide, Or.inl ⟨rfl, p2⟩⟩
  · exact Or.inl ⟨by decide, Or.inl ⟨rfl, p2⟩⟩
  · exact Or.inl ⟨by decide, Or.inl ⟨rfl, p2⟩⟩
theorem sv_p {M Ms : Nat → Int → Int} {t : Int} (h : Ms = saveM (ms1 M 4 t)) (ht : t = 0) : Ms 0 = M 0 ∧ mtd M Ms := by
  have h1 := saveM_fr (ms1 M 4 t)
  have h2 := saveM_e (M := M) (M1 := ms1 M 4 t) rfl rfl rfl
  rw [h]
  refine ⟨h1 0 (by decide), ?_, h2.1, h2.2, h1 20 (by decide), h1 21 (by decide)⟩
  rw [h1 4 (by decide)]
  exact ht
theorem mtd.fr {M Ms M' : Nat → Int → Int} {ks : List Nat} (h : mtd M Ms) (hf : fr ks Ms M') (hk : 1 ∉ ks ∧ 3 ∉ ks ∧ 4 ∉ ks ∧ 20 ∉ ks ∧ 21 ∉ ks) : mtd M M' := by
  obtain ⟨h1, h2, h3, h4, h5⟩ := h
  exact ⟨by rw [hf 4 hk.2.2.1]; exact h1, by rw [hf 1 hk.1]; exact h2, by rw [hf 3 hk.2.1]; exact h3, by rw [hf 20 hk.2.2.2.1]; exact h4, by rw [hf 21 hk.2.2.2.2]; exact h5⟩
theorem chR_c {az P P' V V' : Int → Int} : ∀ (n : Nat) (Z : Int → Int), (∀ i : Int, 0 ≤ i ∧ i < n → P i = P' i ∧ V i = V' i) → chR az P V n Z → chR az P' V' n Z
  | 0, _, _, h => h
  | n + 1, Z, h, ⟨Y, h1, h2⟩ => by
    have h3 := h n (by omega)
    exact ⟨Y, chR_c n Y (fun i hi => h i (by omega)) h1, by rw [← h3.1, ← h3.2]; exact h2⟩
/-- the land az has become az2; its water has found its places anew -/
def chg (az az2 Z : Int → Int) : Prop := ∃ A, Found az2 A ∧ chR A (fun n => lpZ az (az (152 + ordK az n))) (fun n => az (224 + ordK az n)) (nL az).toNat Z
theorem rem_ok {Ms Mr M2 : Nat → Int → Int} {az : Int → Int} (e0 : Ms 0 = az) (hA : okA az) (hw : waterZ az ≤ 2000000) (hr : remP Ms Mr) (h15 : M2 15 = Mr 15) (h16 : M2 16 = Mr 16) (h17 : M2 17 = Mr 17) (hm : M2 0 0 = az 0 ∧ M2 0 1 = az 1) : M2 17 0 = nL az ∧ (0 ≤ nL az ∧ nL az ≤ 36) ∧ (∀ j, 0 ≤ j ∧ j < nL az → 0 ≤ M2 15 j) ∧ (∀ j, 0 ≤ j ∧ j < nL az → isC (M2 0) (M2 16 j)) ∧ sm (M2 15) (nL az).toNat ≤ 2000000 := by
  obtain ⟨_, r2, r3⟩ := hr
  rw [e0] at r2 r3
  have hn := nL_r hA.L
  refine ⟨by rw [h17]; exact r2, hn, fun j hj => ?_, fun j hj => ?_, ?_⟩
  · rw [h15, (r3 j hj).1]; exact hA.v _ (ordK_k hA.L hj).1
  · have h1 := (lpZ_r hA (ordK_k hA.L hj)).1
    rw [h16, (r3 j hj).2]
    unfold isC mny at h1 ⊢
    rw [hm.1, hm.2]; exact h1
  · have h1 := ord_w hA
    rw [sm_e (h := fun n => az (224 + ordK az n)) _ (fun j hj => by rw [h15]; exact (r3 j (by omega)).1)]
    omega
theorem rem_ch {Ms Mr M2 : Nat → Int → Int} {az Z : Int → Int} (e0 : Ms 0 = az) (hA : okA az) (hr : remP Ms Mr) (h15 : M2 15 = Mr 15) (h16 : M2 16 = Mr 16) (h : ∃ A, Found (M2 0) A ∧ chR A (M2 16) (M2 15) (nL az).toNat Z) : chg az (M2 0) Z := by
  obtain ⟨_, r2, r3⟩ := hr
  rw [e0] at r2 r3
  have hn := nL_r hA.L
  obtain ⟨A, h1, h2⟩ := h
  refine ⟨A, h1, chR_c _ _ (fun i hi => ?_) h2⟩
  rw [h15, h16]
  exact ⟨(r3 i (by omega)).2, (r3 i (by omega)).1⟩
set_option maxHeartbeats 4000000 in
theorem ct_begin {g : GV} (hg : GOk g) {ad : Nat → Nat} {M : Nat → Int → Int} (hA : okA (M 0)) (hW : waterZ (M 0) ≤ 1000000) (h3 : 0 ≤ M 3 0 ∧ M 3 0 ≤ 4) {w : Int} (hw : -2147483648 ≤ w ∧ w ≤ 2147483647) {h : Int} (hh : -2147483648 ≤ h ∧ h ≤ 2147483647) : CMi g ad yX5_begin cX5_begin 3 9 .int [iV w, iV h] M (fun z M' => (cod ((1 ≤ w ∧ w ≤ 6) ∧ (1 ≤ h ∧ h ≤ 6)) True True (M' 4 0) ∧ fr SC M M') ∨ (((1 ≤ w ∧ w ≤ 6) ∧ (1 ≤ h ∧ h ≤ 6)) ∧ mtd M M' ∧ z = w * h ∧ ∃ az, bareL az w h ∧ Found az (M' 0))) := by
  refine wm_ofi hg (by decide +kernel) (Nat.le_of_ble_eq_true rfl) (fun F G R9 => ?_)
  have G : FxOk g F cX5_begin RX5 3 9 := G
  refine wp_loc (L' := [(0, _), (1, _), (2, _)]) rfl ?_
  refine wp_aload_n (pc := 0) G dX5_begin_0 rfl 0 rfl ?_
  refine wp_iload_n (pc := 1) G dX5_begin_1 rfl 1 rfl ?_
  refine wp_i2l (pc := 2) G dX5_begin_2 (by omega) ?_
  refine wp_lconst1 (pc := 3) G dX5_begin_3 ?_
  refine wp_ldc2 (z := 6) (pc := 4) G dX5_begin_4 q2186 (by decide +kernel) ?_
  refine ws_calli3 (pc := 7) G dX5_begin_7 kX5_65 (ct_in hg (by omega) (by omega) (by omega)) (by decide) (by decide) (Nat.le_of_ble_eq_true rfl) (fun z_7 h_7 => ?_)
  refine wp_if_eq (tgt := 29) (pc := 10) G dX5_begin_10 h_7.r (by decide) (fun h_10 => ?_) (fun h_10 => ?_)
  · have h_10 := h_7.f h_10
    refine wp_iconst (pc := 29) G dX5_begin_29 ?_
    refine wp_iconst (pc := 30) G dX5_begin_30 ?_
    refine wp_iconst (pc := 31) G dX5_begin_31 ?_
    refine wm_calli3 (pc := 32) G dX5_begin_32 kX5_183 (ct_goes hg (by decide) (by decide) (by decide)) (by decide) (by decide) (Nat.le_of_ble_eq_true rfl) (fun z_32 M_32 h_32 => ?_)
    obtain ⟨hm32, hb32⟩ := h_32
    have gc := goes_c (P := (1 ≤ w ∧ w ≤ 6) ∧ (1 ≤ h ∧ h ≤ 6)) (Q := True) (R := True) (by first | exact isB.i1 ⟨h_10, h_22⟩ | exact isB.i0 (fun q => h_10 q.1) | exact isB.i0 (fun q => h_22 q.2)) (isB.i1 trivial) (isB.i1 trivial)
    have f4 : fr SC M M_32 := by rw [hm32]; exact fr.rf.s1 (by decide)
    have g4 : ∀ t, M_32 = ms1 M 4 t → M_32 4 0 = t := fun t q => by rw [q]; rfl
    have g4 := g4 _ hm32
    refine wp_if_ne (tgt := 40) (pc := 35) G dX5_begin_35 hb32.r (by decide) (fun h_35 => ?_) (fun h_35 => ?_)
    · have h_35 := hb32.t h_35
      have gc := (gc.resolve_left (fun q => q.1 h_35)).2
      refine wp_aload_n (pc := 40) G dX5_begin_40 rfl 0 rfl ?_
      refine wm_callv0 (pc := 41) G dX5_begin_41 kX5_187 (ct_save hg (by rw [hm32]; exact h3)) (by decide) (by decide) (Nat.le_of_ble_eq_true rfl) (fun M_41 h_41 => ?_)
      rw [hm32] at h_41
      obtain ⟨s0, sm0⟩ := sv_p h_41 h_35
      refine wp_aload_n (pc := 44) G dX5_begin_44 rfl 0 rfl ?_
      refine wp_iload_n (pc := 45) G dX5_begin_45 rfl 1 rfl ?_
      refine wp_iload_n (pc := 46) G dX5_begin_46 rfl 2 rfl ?_
      refine wm_callv2 (pc := 47) G dX5_begin_47 kX5_50 (ct_begins hg gc.1.1 gc.1.2) (by decide) (by decide) (Nat.le_of_ble_eq_true rfl) (fun M_47 h_47 => ?_)
      obtain ⟨hf47, hb47⟩ := h_47
      obtain ⟨b9, hb9, hf9⟩ := hb47
      have hb0 := hf9.same (hb9.ok gc.1.1 gc.1.2)
      have hm9 : mny (M_47 0) = w * h := by rw [hb0.m]; unfold mny; rw [hb9.1, hb9.2.1]
      refine wp_aload_n (pc := 50) G dX5_begin_50 rfl 0 rfl ?_
      refine wm_calli0 (pc := 51) G dX5_begin_51 kX5_61 (ct_many hg) (by decide) (by decide) (Nat.le_of_ble_eq_true rfl) (fun z_51 M_51 h_51 => ?_)
      obtain ⟨rfl, h_51⟩ := h_51
      subst h_51
      exact wm_iret (pc := 54) G R9 dX5_begin_54 (Or.inr ⟨gc.1, sm0.fr hf47 (by decide), hm9, b9, hb9, hf9⟩)
    · have h_35 := hb32.f h_35
      refine wp_iconst (pc := 38) G dX5_begin_38 ?_
      exact wm_iret (pc := 39) G R9 dX5_begin_39 (Or.inl ⟨by rw [g4]; exact (gc.resolve_right (fun q => h_35 q.1)).2, f4⟩)
  · have h_10 := h_7.t h_10
    refine wp_iload_n (pc := 13) G dX5_begin_13 rfl 2 rfl ?_
    refine wp_i2l (pc := 14) G dX5_begin_14 (by omega) ?_
    refine wp_lconst1 (pc := 15) G dX5_begin_15 ?_
    refine wp_ldc2 (z := 6) (pc := 16) G dX5_begin_16 q2186 (by decide +kernel) ?_
    refine ws_calli3 (pc := 19) G dX5_begin_19 kX5_65 (ct_in hg (by omega) (by omega) (by omega)) (by decide) (by decide) (Nat.le_of_ble_eq_true rfl) (fun z_19 h_19 => ?_)
    refine wp_if_eq (tgt := 29) (pc := 22) G dX5_begin_22 h_19.r (by decide) (fun h_22 => ?_) (fun h_22 => ?_)
    · have h_22 := h_19.f h_22
      refine wp_iconst (pc := 29) G dX5_begin_29 ?_
      refine wp_iconst (pc := 30) G dX5_begin_30 ?_
      refine wp_iconst (pc := 31) G dX5_begin_31 ?_
      refine wm_calli3 (pc := 32) G dX5_begin_32 kX5_183 (ct_goes hg (by decide) (by decide) (by decide)) (by decide) (by decide) (Nat.le_of_ble_eq_true rfl) (fun z_32 M_32 h_32 => ?_)
      obtain ⟨hm32, hb32⟩ := h_32
      have gc := goes_c (P := (1 ≤ w ∧ w ≤ 6) ∧ (1 ≤ h ∧ h ≤ 6)) (Q := True) (R := True) (by first | exact isB.i1 ⟨h_10, h_22⟩ | exact isB.i0 (fun q => h_10 q.1) | exact isB.i0 (fun q => h_22 q.2)) (isB.i1 trivial) (isB.i1 trivial)
      have f4 : fr SC M M_32 := by rw [hm32]; exact fr.rf.s1 (by decide)
      have g4 : ∀ t, M_32 = ms1 M 4 t → M_32 4 0 = t := fun t q => by rw [q]; rfl
      have g4 := g4 _ hm32
      refine wp_if_ne (tgt := 40) (pc := 35) G dX5_begin_35 hb32.r (by decide) (fun h_35 => ?_) (fun h_35 => ?_)
      · have h_35 := hb32.t h_35
        have gc := (gc.resolve_left (fun q => q.1 h_35)).2
        refine wp_aload_n (pc := 40) G dX5_begin_40 rfl 0 rfl ?_
        refine wm_callv0 (pc := 41) G dX5_begin_41 kX5_187 (ct_save hg (by rw [hm32]; exact h3)) (by decide) (by decide) (Nat.le_of_ble_eq_true rfl) (fun M_41 h_41 => ?_)
        rw [hm32] at h_41
        obtain ⟨s0, sm0⟩ := sv_p h_41 h_35
        refine wp_aload_n (pc := 44) G dX5_begin_44 rfl 0 rfl ?_
        refine wp_iload_n (pc := 45) G dX5_begin_45 rfl 1 rfl ?_
        refine wp_iload_n (pc := 46) G dX5_begin_46 rfl 2 rfl ?_
        refine wm_callv2 (pc := 47) G dX5_begin_47 kX5_50 (ct_begins hg gc.1.1 gc.1.2) (by decide) (by decide) (Nat.le_of_ble_eq_true rfl) (fun M_47 h_47 => ?_)
        obtain ⟨hf47, hb47⟩ := h_47
        obtain ⟨b9, hb9, hf9⟩ := hb47
        have hb0 := hf9.same (hb9.ok gc.1.1 gc.1.2)
        have hm9 : mny (M_47 0) = w * h := by rw [hb0.m]; unfold mny; rw [hb9.1, hb9.2.1]
        refine wp_aload_n (pc := 50) G dX5_begin_50 rfl 0 rfl ?_
        refine wm_calli0 (pc := 51) G dX5_begin_51 kX5_61 (ct_many hg) (by decide) (by decide) (Nat.le_of_ble_eq_true rfl) (fun z_51 M_51 h_51 => ?_)
        obtain ⟨rfl, h_51⟩ := h_51
        subst h_51
        exact wm_iret (pc := 54) G R9 dX5_begin_54 (Or.inr ⟨gc.1, sm0.fr hf47 (by decide), hm9, b9, hb9, hf9⟩)
      · have h_35 := hb32.f h_35
        refine wp_iconst (pc := 38) G dX5_begin_38 ?_
        exact wm_iret (pc := 39) G R9 dX5_begin_39 (Or.inl ⟨by rw [g4]; exact (gc.resolve_right (fun q => h_35 q.1)).2, f4⟩)
    · have h_22 := h_19.t h_22
      refine wp_iconst (pc := 25) G dX5_begin_25 ?_
      refine wp_goto (tgt := 30) (pc := 26) G dX5_begin_26 (by decide) ?_
      refine wp_iconst (pc := 30) G dX5_begin_30 ?_
      refine wp_iconst (pc := 31) G dX5_begin_31 ?_
      refine wm_calli3 (pc := 32) G dX5_begin_32 kX5_183 (ct_goes hg (by decide) (by decide) (by decide)) (by decide) (by decide) (Nat.le_of_ble_eq_true rfl) (fun z_32 M_32 h_32 => ?_)
      obtain ⟨hm32, hb32⟩ := h_32
      have gc := goes_c (P := (1 ≤ w ∧ w ≤ 6) ∧ (1 ≤ h ∧ h ≤ 6)) (Q := True) (R := True) (by first | exact isB.i1 ⟨h_10, h_22⟩ | exact isB.i0 (fun q => h_10 q.1) | exact isB.i0 (fun q => h_22 q.2)) (isB.i1 trivial) (isB.i1 trivial)
      have f4 : fr SC M M_32 := by rw [hm32]; exact fr.rf.s1 (by decide)
      have g4 : ∀ t, M_32 = ms1 M 4 t → M_32 4 0 = t := fun t q => by rw [q]; rfl
      have g4 := g4 _ hm32
      refine wp_if_ne (tgt := 40) (pc := 35) G dX5_begin_35 hb32.r (by decide) (fun h_35 => ?_) (fun h_35 => ?_)
      · have h_35 := hb32.t h_35
        have gc := (gc.resolve_left (fun q => q.1 h_35)).2
        refine wp_aload_n (pc := 40) G dX5_begin_40 rfl 0 rfl ?_
        refine wm_callv0 (pc := 41) G dX5_begin_41 kX5_187 (ct_save hg (by rw [hm32]; exact h3)) (by decide) (by decide) (Nat.le_of_ble_eq_true rfl) (fun M_41 h_41 => ?_)
        rw [hm32] at h_41
        obtain ⟨s0, sm0⟩ := sv_p h_41 h_35
        refine wp_aload_n (pc := 44) G dX5_begin_44 rfl 0 rfl ?_
        refine wp_iload_n (pc := 45) G dX5_begin_45 rfl 1 rfl ?_
        refine wp_iload_n (pc := 46) G dX5_begin_46 rfl 2 rfl ?_
        refine wm_callv2 (pc := 47) G dX5_begin_47 kX5_50 (ct_begins hg gc.1.1 gc.1.2) (by decide) (by decide) (Nat.le_of_ble_eq_true rfl) (fun M_47 h_47 => ?_)
        obtain ⟨hf47, hb47⟩ := h_47
        obtain ⟨b9, hb9, hf9⟩ := hb47
        have hb0 := hf9.same (hb9.ok gc.1.1 gc.1.2)
        have hm9 : mny (M_47 0) = w * h := by rw [hb0.m]; unfold mny; rw [hb9.1, hb9.2.1]
        refine wp_aload_n (pc := 50) G dX5_begin_50 rfl 0 rfl ?_
        refine wm_calli0 (pc := 51) G dX5_begin_51 kX5_61 (ct_many hg) (by decide) (by decide) (Nat.le_of_ble_eq_true rfl) (fun z_51 M_51 h_51 => ?_)
        obtain ⟨rfl, h_51⟩ := h_51
        subst h_51
        exact wm_iret (pc := 54) G R9 dX5_begin_54 (Or.inr ⟨gc.1, sm0.fr hf47 (by decide), hm9, b9, hb9, hf9⟩)
      · have h_35 := hb32.f h_35
        refine wp_iconst (pc := 38) G dX5_begin_38 ?_
        exact wm_iret (pc := 39) G R9 dX5_begin_39 (Or.inl ⟨by rw [g4]; exact (gc.resolve_right (fun q => h_35 q.1)).2, f4⟩)
set_option maxHeartbeats 4000000 in
theorem ct_setHeight {g : GV} (hg : GOk g) {ad : Nat → Nat} {M : Nat → Int → Int} (hA : okA (M 0)) (hW : waterZ (M 0) ≤ 1000000) (h3 : 0 ≤ M 3 0 ∧ M 3 0 ≤ 4) {c : Int} (hc : -2147483648 ≤ c ∧ c ≤ 2147483647) {h : Int} (hh : -2147483648 ≤ h ∧ h ≤ 2147483647) : CMi g ad yX5_setHeight cX5_setHeight 4 9 .int [iV c, iV h] M (fun z M' => (cod (isC (M 0) c) (0 ≤ h ∧ h ≤ 99) True (M' 4 0) ∧ fr SC M M') ∨ ((isC (M 0) c) ∧ (0 ≤ h ∧ h ≤ 99) ∧ mtd M M' ∧ z = hgt (M 0) c ∧ chg (M 0) (fup (M 0) (8 + c) h) (M' 0))) := by
  refine wm_ofi hg (by decide +kernel) (Nat.le_of_ble_eq_true rfl) (fun F G R9 => ?_)
  have G : FxOk g F cX5_setHeight RX5 4 9 := G
  refine wp_loc (L' := [(0, _), (1, _), (2, _)]) rfl ?_
  refine wp_aload_n (pc := 0) G dX5_setHeight_0 rfl 0 rfl ?_
  refine wp_aload_n (pc := 1) G dX5_setHeight_1 rfl 0 rfl ?_
  refine wp_iload_n (pc := 2) G dX5_setHeight_2 rfl 1 rfl ?_
  refine wm_calli1 (pc := 3) G dX5_setHeight_3 kX5_73 (ct_isCell hg hA.L hc) (by decide) (by decide) (Nat.le_of_ble_eq_true rfl) (fun z_3 M_3 h_3 => ?_)
  obtain ⟨rfl, h_3⟩ := h_3
  refine wp_iload_n (pc := 6) G dX5_setHeight_6 rfl 2 rfl ?_
  refine wp_i2l (pc := 7) G dX5_setHeight_7 (by omega) ?_
  refine wp_lconst0 (pc := 8) G dX5_setHeight_8 ?_
  refine wp_ldc2 (z := 99) (pc := 9) G dX5_setHeight_9 q2206 (by decide +kernel) ?_
  refine ws_calli3 (pc := 12) G dX5_setHeight_12 kX5_65 (ct_in hg (by omega) (by omega) (by omega)) (by decide) (by decide) (Nat.le_of_ble_eq_true rfl) (fun z_12 h_12 => ?_)
  refine wp_iconst (pc := 15) G dX5_setHeight_15 ?_
  refine wm_calli3 (pc := 16) G dX5_setHeight_16 kX5_183 (ct_goes hg h_3.z h_12.z (by decide)) (by decide) (by decide) (Nat.le_of_ble_eq_true rfl) (fun z_16 M_16 h_16 => ?_)
  obtain ⟨hm16, hb16⟩ := h_16
  have gc := goes_c (P := isC (M 0) c) (Q := 0 ≤ h ∧ h ≤ 99) (R := True) h_3 h_12 (isB.i1 trivial)
  have f4 : fr SC M M_16 := by rw [hm16]; exact fr.rf.s1 (by decide)
  have g4 : ∀ t, M_16 = ms1 M 4 t → M_16 4 0 = t := fun t q => by rw [q]; rfl
  have g4 := g4 _ hm16
  refine wp_if_ne (tgt := 24) (pc := 19) G dX5_setHeight_19 hb16.r (by decide) (fun h_19 => ?_) (fun h_19 => ?_)
  · have h_19 := hb16.t h_19
    have gc := (gc.resolve_left (fun q => q.1 h_19)).2
    have hc9 := gc.1.lt hA.L
    refine wp_aload_n (pc := 24) G dX5_setHeight_24 rfl 0 rfl ?_
    refine wm_callv0 (pc := 25) G dX5_setHeight_25 kX5_187 (ct_save hg (by rw [hm16]; exact h3)) (by decide) (by decide) (Nat.le_of_ble_eq_true rfl) (fun M_25 h_25 => ?_)
    rw [hm16] at h_25
    obtain ⟨s0, sm0⟩ := sv_p h_25 h_19
    refine wp_aload_n (pc := 28) G dX5_setHeight_28 rfl 0 rfl ?_
    refine wm_callv0 (pc := 29) G dX5_setHeight_29 kX5_192 (ct_remembers hg (by rw [s0]; exact hA) (by rw [s0]; omega)) (by decide) (by decide) (Nat.le_of_ble_eq_true rfl) (fun M_29 h_29 => ?_)
    have hr29 := h_29
    have r0 : M_29 0 = M 0 := by rw [hr29.1 0 (by decide), s0]
    have sm1 := sm0.fr hr29.1 (by decide)
    refine wp_aload_n (pc := 32) G dX5_setHeight_32 rfl 0 rfl ?_
    refine wp_iload_n (pc := 33) G dX5_setHeight_33 rfl 1 rfl ?_
    refine wm_calli1 (pc := 34) G dX5_setHeight_34 kX5_87 (ct_height hg (by omega)) (by decide) (by decide) (Nat.le_of_ble_eq_true rfl) (fun z_34 M_34 h_34 => ?_)
    obtain ⟨rfl, h_34⟩ := h_34
    rw [r0] at h_34
    refine wp_istore_n (L' := [(3, _), (0, _), (1, _), (2, _)]) (pc := 37) G dX5_setHeight_37 rfl (by decide) rfl ?_
    refine wp_aload_n (pc := 38) G dX5_setHeight_38 rfl 1 rfl ?_
    refine wm_get_0 (pc := 39) G dX5_setHeight_39 fX5_7_4 ?_
    refine wp_bipush (pc := 42) G dX5_setHeight_42 (by decide) ?_
    refine wp_iload_n (pc := 44) G dX5_setHeight_44 rfl 2 rfl ?_
    refine wp_iadd (pc := 45) G dX5_setHeight_45 ?_
    refine wp_iload_n (pc := 46) G dX5_setHeight_46 rfl 3 rfl ?_
    refine wp_i2l (pc := 47) G dX5_setHeight_47 (by omega) ?_
    refine wm_ast_0 (pc := 48) G dX5_setHeight_48 (by omega) ?_
    obtain ⟨M2, hM2⟩ : ∃ X, X = ma1 M_29 0 (8 + c) h := ⟨_, rfl⟩
    rw [← hM2]
    have z2 : M2 0 = fup (M 0) (8 + c) h := by rw [hM2, ← r0]; rfl
    have hf2 : fr [0] M_29 M2 := by rw [hM2]; exact fr.rf.a1 (by decide)
    have ro := rem_ok (M2 := M2) s0 hA (by omega) hr29 (hf2 15 (by decide)) (hf2 16 (by decide)) (hf2 17 (by decide)) ⟨by rw [z2, fup_n _ _ (by omega)], by rw [z2, fup_n _ _ (by omega)]⟩
    refine wp_aload_n (pc := 49) G dX5_setHeight_49 rfl 1 rfl ?_
    refine wm_callv0 (pc := 50) G dX5_setHeight_50 kX5_195 (ct_changes hg (by rw [z2]; exact hA.L.put_h hc9 gc.2.1) ro.1 ro.2.1 ro.2.2.1 ro.2.2.2.1 ro.2.2.2.2) (by decide) (by decide) (Nat.le_of_ble_eq_true rfl) (fun M_50 h_50 => ?_)
    obtain ⟨hf50, hc50⟩ := h_50
    have ch9 := rem_ch (M2 := M2) s0 hA hr29 (hf2 15 (by decide)) (hf2 16 (by decide)) hc50
    refine wp_iload_n (pc := 53) G dX5_setHeight_53 rfl 0 rfl ?_
    exact wm_iret (pc := 54) G R9 dX5_setHeight_54 (Or.inr ⟨gc.1, gc.2.1, (sm1.fr hf2 (by decide)).fr hf50 (by decide), h_34, by rw [← z2]; exact ch9⟩)
  · have h_19 := hb16.f h_19
    refine wp_iconst (pc := 22) G dX5_setHeight_22 ?_
    exact wm_iret (pc := 23) G R9 dX5_setHeight_23 (Or.inl ⟨by rw [g4]; exact (gc.resolve_right (fun q => h_19 q.1)).2, f4⟩)
/-- the set m without c -/
def offZ (m c : Int) : Int := ((m.toNat &&& (2 ^ c.toNat ^^^ 18446744073709551615) : Nat) : Int)
theorem offZ_ok {m c : Int} (hm : okS m) : okS (offZ m c) := by
  unfold offZ
  have : m.toNat &&& (2 ^ c.toNat ^^^ 18446744073709551615) ≤ m.toNat := Nat.and_le_left
  unfold okS at hm ⊢
  omega
theorem j_off {m c : Int} (hm : okS m) (hc : 0 ≤ c ∧ c < 36) : Int64.ofInt m &&& (Int64.ofInt (2 ^ c.toNat) ^^^ Int64.ofInt (-1)) = Int64.ofInt (offZ m c) := by
  obtain ⟨n, rfl⟩ := Int.eq_ofNat_of_zero_le hm.1
  obtain ⟨k, rfl⟩ := Int.eq_ofNat_of_zero_le hc.1
  have hk : 2 ^ k < 2 ^ 64 := Nat.pow_lt_pow_right (by omega) (by omega)
  have hn := hm.2
  unfold offZ
  rw [Int.toNat_natCast, Int.toNat_natCast, two_p, j_lN, j_lN, j_lN, show Int64.ofInt (-1) = lN 18446744073709551615 from by decide +kernel]
  apply wb_inj
  show (lN n).toBitVec &&& ((lN (2 ^ k)).toBitVec ^^^ (lN 18446744073709551615).toBitVec) = _
  rw [wb_tb, wb_tb, wb_tb, wb_tb]
  apply BitVec.eq_of_toNat_eq
  rw [BitVec.toNat_and, BitVec.toNat_xor, BitVec.toNat_ofNat, BitVec.toNat_ofNat, BitVec.toNat_ofNat, BitVec.toNat_ofNat, Nat.mod_eq_of_lt (show n < 2 ^ 64 by omega), Nat.mod_eq_of_lt hk, Nat.mod_eq_of_lt (show 18446744073709551615 < 2 ^ 64 by decide)]
  have : n &&& (2 ^ k ^^^ 18446744073709551615) ≤ n := Nat.and_le_left
  rw [Nat.mod_eq_of_lt (by omega)]
/-- the drains with or without one at c -/
def drZ (m c b : Int) : Int := if b = 0 then offZ m c else orZ m (2 ^ c.toNat)
theorem drZ_ok {m c b : Int} (hm : okS m) (hc : 0 ≤ c ∧ c < 36) : okS (drZ m c b) := by
  unfold drZ
  split
  · exact offZ_ok hm
  · exact okS_or hm (okS_bit hc)
set_option maxHeartbeats 4000000 in
theorem ct_setDrain {g : GV} (hg : GOk g) {ad : Nat → Nat} {M : Nat → Int → Int} (hA : okA (M 0)) (hW : waterZ (M 0) ≤ 1000000) (h3 : 0 ≤ M 3 0 ∧ M 3 0 ≤ 4) {c : Int} (hc : -2147483648 ≤ c ∧ c ≤ 2147483647) {b : Int} (hb : b = 0 ∨ b = 1) : CMi g ad yX5_setDrain cX5_setDrain 4 9 .boolean [iV c, iV b] M (fun z M' => (cod (isC (M 0) c) True True (M' 4 0) ∧ fr SC M M') ∨ ((isC (M 0) c) ∧ mtd M M' ∧ isB z (inS (M 0 2) c) ∧ chg (M 0) (fup (M 0) 2 (drZ (M 0 2) c b)) (M' 0))) := by
  refine wm_ofi hg (by decide +kernel) (Nat.le_of_ble_eq_true rfl) (fun F G R9 => ?_)
  have G : FxOk g F cX5_setDrain RX5 4 9 := G
  refine wp_loc (L' := [(0, _), (1, _), (2, _)]) rfl ?_
  refine wp_aload_n (pc := 0) G dX5_setDrain_0 rfl 0 rfl ?_
  refine wp_aload_n (pc := 1) G dX5_setDrain_1 rfl 0 rfl ?_
  refine wp_iload_n (pc := 2) G dX5_setDrain_2 rfl 1 rfl ?_
  refine wm_calli1 (pc := 3) G dX5_setDrain_3 kX5_73 (ct_isCell hg hA.L hc) (by decide) (by decide) (Nat.le_of_ble_eq_true rfl) (fun z_3 M_3 h_3 => ?_)
  obtain ⟨rfl, h_3⟩ := h_3
  refine wp_iconst (pc := 6) G dX5_setDrain_6 ?_
  refine wp_iconst (pc := 7) G dX5_setDrain_7 ?_
  refine wm_calli3 (pc := 8) G dX5_setDrain_8 kX5_183 (ct_goes hg h_3.z (by decide) (by decide)) (by decide) (by decide) (Nat.le_of_ble_eq_true rfl) (fun z_8 M_8 h_8 => ?_)
  obtain ⟨hm8, hb8⟩ := h_8
  have gc := goes_c (P := isC (M 0) c) (Q := True) (R := True) h_3 (isB.i1 trivial) (isB.i1 trivial)
  have f4 : fr SC M M_8 := by rw [hm8]; exact fr.rf.s1 (by decide)
  have g4 : ∀ t, M_8 = ms1 M 4 t → M_8 4 0 = t := fun t q => by rw [q]; rfl
  have g4 := g4 _ hm8
  refine wp_if_ne (tgt := 16) (pc := 11) G dX5_setDrain_11 hb8.r (by decide) (fun h_11 => ?_) (fun h_11 => ?_)
  · have h_11 := hb8.t h_11
    have gc := (gc.resolve_left (fun q => q.1 h_11)).2
    have hc9 := gc.1.lt hA.L
    refine wp_aload_n (pc := 16) G dX5_setDrain_16 rfl 0 rfl ?_
    refine wm_callv0 (pc := 17) G dX5_setDrain_17 kX5_187 (ct_save hg (by rw [hm8]; exact h3)) (by decide) (by decide) (Nat.le_of_ble_eq_true rfl) (fun M_17 h_17 => ?_)
    rw [hm8] at h_17
    obtain ⟨s0, sm0⟩ := sv_p h_17 h_11
    refine wp_aload_n (pc := 20) G dX5_setDrain_20 rfl 0 rfl ?_
    refine wm_callv0 (pc := 21) G dX5_setDrain_21 kX5_192 (ct_remembers hg (by rw [s0]; exact hA) (by rw [s0]; omega)) (by decide) (by decide) (Nat.le_of_ble_eq_true rfl) (fun M_21 h_21 => ?_)
    have hr21 := h_21
    have r0 : M_21 0 = M 0 := by rw [hr21.1 0 (by decide), s0]
    have sm1 := sm0.fr hr21.1 (by decide)
    refine wp_aload_n (pc := 24) G dX5_setDrain_24 rfl 0 rfl ?_
    refine wm_get_0 (pc := 25) G dX5_setDrain_25 fX5_7_4 ?_
    refine wp_iconst (pc := 28) G dX5_setDrain_28 ?_
    refine wm_ald_0 (pc := 29) G dX5_setDrain_29 (by omega) ?_
    rw [r0]
    refine wp_iload_n (pc := 30) G dX5_setDrain_30 rfl 1 rfl ?_
    refine ws_calli2 (pc := 31) G dX5_setDrain_31 kX5_91 (ct_has hg (by have := hA.L.dr; unfold okS at this; omega) (by omega)) (by decide) (by decide) (Nat.le_of_ble_eq_true rfl) (fun z_31 h_31 => ?_)
    refine wp_istore_n (L' := [(3, _), (0, _), (1, _), (2, _)]) (pc := 34) G dX5_setDrain_34 rfl (by decide) rfl ?_
    have J71 : ∀ (v : Int), (v = drZ (M 0 2) c b) → Wp g F [MB g ad M_21] 0 0 71 [(0, .ref (ad 25)), (3, iV z_31)] [jV v, iV 2, .ref (ad 0)] := by
      intro v hv
      refine wm_ast_0 (pc := 71) G dX5_setDrain_71 (by omega) ?_
      obtain ⟨M2, hM2⟩ : ∃ X, X = ma1 M_21 0 2 v := ⟨_, rfl⟩
      rw [← hM2]
      have z2 : M2 0 = fup (M 0) 2 v := by rw [hM2, ← r0]; rfl
      have hf2 : fr [0] M_21 M2 := by rw [hM2]; exact fr.rf.a1 (by decide)
      have ro := rem_ok (M2 := M2) s0 hA (by omega) hr21 (hf2 15 (by decide)) (hf2 16 (by decide)) (hf2 17 (by decide)) ⟨by rw [z2, fup_n _ _ (by omega)], by rw [z2, fup_n _ _ (by omega)]⟩
      refine wp_aload_n (pc := 72) G dX5_setDrain_72 rfl 0 rfl ?_
      refine wm_callv0 (pc := 73) G dX5_setDrain_73 kX5_195 (ct_changes hg (by rw [z2]; exact hA.L.put_d (by rw [hv]; exact drZ_ok hA.L.dr hc9)) ro.1 ro.2.1 ro.2.2.1 ro.2.2.2.1 ro.2.2.2.2) (by decide) (by decide) (Nat.le_of_ble_eq_true rfl) (fun M_73 h_73 => ?_)
      obtain ⟨hf73, hc73⟩ := h_73
      have ch9 := rem_ch (M2 := M2) s0 hA hr21 (hf2 15 (by decide)) (hf2 16 (by decide)) hc73
      refine wp_iload_n (pc := 76) G dX5_setDrain_76 rfl 1 rfl ?_
      exact wm_zret (pc := 77) G R9 dX5_setDrain_77 h_31.z (Or.inr ⟨gc.1, (sm1.fr hf2 (by decide)).fr hf73 (by decide), h_31, by rw [← hv, ← z2]; exact ch9⟩)
    refine wp_aload_n (pc := 35) G dX5_setDrain_35 rfl 1 rfl ?_
    refine wm_get_0 (pc := 36) G dX5_setDrain_36 fX5_7_4 ?_
    refine wp_iconst (pc := 39) G dX5_setDrain_39 ?_
    refine wp_iload_n (pc := 40) G dX5_setDrain_40 rfl 3 rfl ?_
    refine wp_if_eq (tgt := 57) (pc := 41) G dX5_setDrain_41 (by omega) (by decide) (fun h_41 => ?_) (fun h_41 => ?_)
    · refine wp_aload_n (pc := 57) G dX5_setDrain_57 rfl 1 rfl ?_
      refine wm_get_0 (pc := 58) G dX5_setDrain_58 fX5_7_4 ?_
      refine wp_iconst (pc := 61) G dX5_setDrain_61 ?_
      refine wm_ald_0 (pc := 62) G dX5_setDrain_62 (by omega) ?_
      rw [r0]
      refine wp_lconst1 (pc := 63) G dX5_setDrain_63 ?_
      refine wp_iload_n (pc := 64) G dX5_setDrain_64 rfl 2 rfl ?_
      refine wp_bit (pc := 65) G dX5_setDrain_65 (by omega) ?_
      refine wp_ldc2 (z := -1) (pc := 66) G dX5_setDrain_66 q2055 (by decide +kernel) ?_
      refine wp_lxor_r (pc := 69) G dX5_setDrain_69 ?_
      refine wp_land_r (pc := 70) G dX5_setDrain_70 ?_
      rw [j_off hA.L.dr hc9]
      refine wp_sub (L' := [(0, _), (3, _)]) [1, 0] rfl ?_
      first
        | exact J71 _ (if_pos h_41).symm
        | exact J71 _ (if_neg h_41).symm
    · refine wp_aload_n (pc := 44) G dX5_setDrain_44 rfl 1 rfl ?_
      refine wm_get_0 (pc := 45) G dX5_setDrain_45 fX5_7_4 ?_
      refine wp_iconst (pc := 48) G dX5_setDrain_48 ?_
      refine wm_ald_0 (pc := 49) G dX5_setDrain_49 (by omega) ?_
      rw [r0]
      refine wp_lconst1 (pc := 50) G dX5_setDrain_50 ?_
      refine wp_iload_n (pc := 51) G dX5_setDrain_51 rfl 2 rfl ?_
      refine wp_bit (pc := 52) G dX5_setDrain_52 (by omega) ?_
      refine wp_lor (pc := 53) G dX5_setDrain_53 hA.L.dr.1 (okS_bit hc9).1 ?_
      refine wp_goto (tgt := 71) (pc := 54) G dX5_setDrain_54 (by decide) ?_
      refine wp_sub (L' := [(0, _), (3, _)]) [1, 0] rfl ?_
      first
        | exact J71 _ (if_pos h_41).symm
        | exact J71 _ (if_neg h_41).symm
  · have h_11 := hb8.f h_11
    refine wp_iconst (pc := 14) G dX5_setDrain_14 ?_
    exact wm_zret (pc := 15) G R9 dX5_setDrain_15 (by decide) (Or.inl ⟨by rw [g4]; exact (gc.resolve_right (fun q => h_11 q.1)).2, f4⟩)
set_option maxHeartbeats 4000000 in
theorem ct_setGate {g : GV} (hg : GOk g) {ad : Nat → Nat} {M : Nat → Int → Int} (hA : okA (M 0)) (hW : waterZ (M 0) ≤ 1000000) (h3 : 0 ≤ M 3 0 ∧ M 3 0 ≤ 4) {a : Int} (ha : -2147483648 ≤ a ∧ a ≤ 2147483647) {b : Int} (hb : -2147483648 ≤ b ∧ b ≤ 2147483647) {h : Int} (hh : -2147483648 ≤ h ∧ h ≤ 2147483647) : CMi g ad yX5_setGate cX5_setGate 5 9 .int [iV a, iV b, iV h] M (fun z M' => (cod (isC (M 0) a ∧ isC (M 0) b ∧ isNb (M 0) a b) (-1 ≤ h ∧ h ≤ 99) True (M' 4 0) ∧ fr SC M M') ∨ ((isC (M 0) a ∧ isC (M 0) b ∧ isNb (M 0) a b) ∧ (-1 ≤ h ∧ h ≤ 99) ∧ mtd M M' ∧ z = M 0 (gat (M 0) a b) ∧ chg (M 0) (fup (M 0) (gat (M 0) a b) h) (M' 0))) := by
  refine wm_ofi hg (by decide +kernel) (Nat.le_of_ble_eq_true rfl) (fun F G R9 => ?_)
  have G : FxOk g F cX5_setGate RX5 5 9 := G
  refine wp_loc (L' := [(0, _), (1, _), (2, _), (3, _)]) rfl ?_
  refine wp_aload_n (pc := 0) G dX5_setGate_0 rfl 0 rfl ?_
  refine wp_aload_n (pc := 1) G dX5_setGate_1 rfl 0 rfl ?_
  refine wp_iload_n (pc := 2) G dX5_setGate_2 rfl 1 rfl ?_
  refine wp_iload_n (pc := 3) G dX5_setGate_3 rfl 2 rfl ?_
  refine wm_calli2 (pc := 4) G dX5_setGate_4 kX5_198 (ct_isPair hg hA.L ha hb) (by decide) (by decide) (Nat.le_of_ble_eq_true rfl) (fun z_4 M_4 h_4 => ?_)
  obtain ⟨rfl, h_4⟩ := h_4
  refine wp_iload_n (pc := 7) G dX5_setGate_7 rfl 3 rfl ?_
  refine wp_i2l (pc := 8) G dX5_setGate_8 (by omega) ?_
  refine wp_ldc2 (z := -1) (pc := 9) G dX5_setGate_9 q2055 (by decide +kernel) ?_
  refine wp_ldc2 (z := 99) (pc := 12) G dX5_setGate_12 q2206 (by decide +kernel) ?_
  refine ws_calli3 (pc := 15) G dX5_setGate_15 kX5_65 (ct_in hg (by omega) (by omega) (by omega)) (by decide) (by decide) (Nat.le_of_ble_eq_true rfl) (fun z_15 h_15 => ?_)
  refine wp_iconst (pc := 18) G dX5_setGate_18 ?_
  refine wm_calli3 (pc := 19) G dX5_setGate_19 kX5_183 (ct_goes hg h_4.z h_15.z (by decide)) (by decide) (by decide) (Nat.le_of_ble_eq_true rfl) (fun z_19 M_19 h_19 => ?_)
  obtain ⟨hm19, hb19⟩ := h_19
  have gc := goes_c (P := isC (M 0) a ∧ isC (M 0) b ∧ isNb (M 0) a b) (Q := -1 ≤ h ∧ h ≤ 99) (R := True) h_4 h_15 (isB.i1 trivial)
  have f4 : fr SC M M_19 := by rw [hm19]; exact fr.rf.s1 (by decide)
  have g4 : ∀ t, M_19 = ms1 M 4 t → M_19 4 0 = t := fun t q => by rw [q]; rfl
  have g4 := g4 _ hm19
  refine wp_if_ne (tgt := 27) (pc := 22) G dX5_setGate_22 hb19.r (by decide) (fun h_22 => ?_) (fun h_22 => ?_)
  · have h_22 := hb19.t h_22
    have gc := (gc.resolve_left (fun q => q.1 h_22)).2
    have hg9 := gat_r hA.L gc.1.1 gc.1.2.1
    refine wp_aload_n (pc := 27) G dX5_setGate_27 rfl 0 rfl ?_
    refine wm_callv0 (pc := 28) G dX5_setGate_28 kX5_187 (ct_save hg (by rw [hm19]; exact h3)) (by decide) (by decide) (Nat.le_of_ble_eq_true rfl) (fun M_28 h_28 => ?_)
    rw [hm19] at h_28
    obtain ⟨s0, sm0⟩ := sv_p h_28 h_22
    refine wp_aload_n (pc := 31) G dX5_setGate_31 rfl 0 rfl ?_
    refine wm_callv0 (pc := 32) G dX5_setGate_32 kX5_192 (ct_remembers hg (by rw [s0]; exact hA) (by rw [s0]; omega)) (by decide) (by decide) (Nat.le_of_ble_eq_true rfl) (fun M_32 h_32 => ?_)
    have hr32 := h_32
    have r0 : M_32 0 = M 0 := by rw [hr32.1 0 (by decide), s0]
    have sm1 := sm0.fr hr32.1 (by decide)
    refine wp_aload_n (pc := 35) G dX5_setGate_35 rfl 0 rfl ?_
    refine wm_get_0 (pc := 36) G dX5_setGate_36 fX5_7_4 ?_
    refine wp_aload_n (pc := 39) G dX5_setGate_39 rfl 0 rfl ?_
    refine wp_iload_n (pc := 40) G dX5_setGate_40 rfl 1 rfl ?_
    refine wp_iload_n (pc := 41) G dX5_setGate_41 rfl 2 rfl ?_
    refine wm_calli2 (pc := 42) G dX5_setGate_42 kX5_81 (ct_gateAt hg (by rw [r0]; exact hA.L) (by rw [r0]; exact gc.1.1) (by rw [r0]; exact gc.1.2.1)) (by decide) (by decide) (Nat.le_of_ble_eq_true rfl) (fun z_42 M_42 h_42 => ?_)
    obtain ⟨rfl, h_42⟩ := h_42
    rw [r0] at h_42
    subst h_42
    refine wm_ald_0 (pc := 45) G dX5_setGate_45 (by omega) ?_
    rw [r0]
    refine wp_l2i (pc := 46) G dX5_setGate_46 ?_
    refine wp_istore (L' := [(4, _), (0, _), (1, _), (2, _), (3, _)]) (pc := 47) G dX5_setGate_47 (by decide) rfl ?_
    refine wp_aload_n (pc := 49) G dX5_setGate_49 rfl 1 rfl ?_
    refine wm_get_0 (pc := 50) G dX5_setGate_50 fX5_7_4 ?_
    refine wp_aload_n (pc := 53) G dX5_setGate_53 rfl 1 rfl ?_
    refine wp_iload_n (pc := 54) G dX5_setGate_54 rfl 2 rfl ?_
    refine wp_iload_n (pc := 55) G dX5_setGate_55 rfl 3 rfl ?_
    refine wm_calli2 (pc := 56) G dX5_setGate_56 kX5_81 (ct_gateAt hg (by rw [r0]; exact hA.L) (by rw [r0]; exact gc.1.1) (by rw [r0]; exact gc.1.2.1)) (by decide) (by decide) (Nat.le_of_ble_eq_true rfl) (fun z_56 M_56 h_56 => ?_)
    obtain ⟨rfl, h_56⟩ := h_56
    rw [r0] at h_56
    subst h_56
    refine wp_iload_n (pc := 59) G dX5_setGate_59 rfl 4 rfl ?_
    refine wp_i2l (pc := 60) G dX5_setGate_60 (by omega) ?_
    refine wm_ast_0 (pc := 61) G dX5_setGate_61 (by omega) ?_
    obtain ⟨M2, hM2⟩ : ∃ X, X = ma1 M_32 0 (gat (M 0) a b) h := ⟨_, rfl⟩
    rw [← hM2]
    have z2 : M2 0 = fup (M 0) (gat (M 0) a b) h := by rw [hM2, ← r0]; rfl
    have hf2 : fr [0] M_32 M2 := by rw [hM2]; exact fr.rf.a1 (by decide)
    have ro := rem_ok (M2 := M2) s0 hA (by omega) hr32 (hf2 15 (by decide)) (hf2 16 (by decide)) (hf2 17 (by decide)) ⟨by rw [z2, fup_n _ _ (by omega)], by rw [z2, fup_n _ _ (by omega)]⟩
    refine wp_aload_n (pc := 62) G dX5_setGate_62 rfl 1 rfl ?_
    refine wm_callv0 (pc := 63) G dX5_setGate_63 kX5_195 (ct_changes hg (by rw [z2]; exact hA.L.put_g hg9 gc.2.1) ro.1 ro.2.1 ro.2.2.1 ro.2.2.2.1 ro.2.2.2.2) (by decide) (by decide) (Nat.le_of_ble_eq_true rfl) (fun M_63 h_63 => ?_)
    obtain ⟨hf63, hc63⟩ := h_63
    have ch9 := rem_ch (M2 := M2) s0 hA hr32 (hf2 15 (by decide)) (hf2 16 (by decide)) hc63
    refine wp_iload (pc := 66) G dX5_setGate_66 0 rfl ?_
    exact wm_iret (pc := 68) G R9 dX5_setGate_68 (Or.inr ⟨gc.1, gc.2.1, (sm1.fr hf2 (by decide)).fr hf63 (by decide), rfl, by rw [← z2]; exact ch9⟩)
  · have h_22 := hb19.f h_22
    refine wp_iconst (pc := 25) G dX5_setGate_25 ?_
    exact wm_iret (pc := 26) G R9 dX5_setGate_26 (Or.inl ⟨by rw [g4]; exact (gc.resolve_right (fun q => h_22 q.1)).2, f4⟩)
/-- the n-th number -/
def rdS (s : Int) : Nat → Int
  | 0 => s
  | n + 1 => (1103515245 * rdS s n + 12345) % 2147483648
theorem rdS_r {s : Int} (hs : 0 ≤ s ∧ s ≤ 999999) : ∀ n : Nat, 0 ≤ rdS s n ∧ rdS s n < 2147483648
  | 0 => by unfold rdS; omega
  | n + 1 => by unfold rdS; omega
/-- the heights by chance -/
def rnd (az : Int → Int) (s h : Int) (n : Int) : Int → Int := fun j => if 8 ≤ j ∧ j < 8 + n then rdS s (j - 8 + 1).toNat / 65536 % (h + 1) else az j
theorem rnd_L {az : Int → Int} (hL : okL az) {s h n : Int} (hh : 0 ≤ h ∧ h ≤ 99) (hn : n ≤ 36) : okL (rnd az s h n) := by
  obtain ⟨h1, h2, h3, h4, h5⟩ := hL
  have e : ∀ j, ¬ (8 ≤ j ∧ j < 8 + n) → rnd az s h n j = az j := fun j hj => if_neg hj
  refine ⟨by rw [e 0 (by omega)]; exact h1, by rw [e 1 (by omega)]; exact h2, fun c hc => ?_, fun k hk => ?_, by rw [e 2 (by omega)]; exact h5⟩
  · unfold rnd
    split
    · have h1 := Int.emod_nonneg (rdS s (8 + c - 8 + 1).toNat / 65536) (show h + 1 ≠ 0 by omega)
      have h2 := Int.emod_lt_of_pos (rdS s (8 + c - 8 + 1).toNat / 65536) (show 0 < h + 1 by omega)
      omega
    · exact h3 c hc
  · rw [e k (by omega)]; exact h4 k hk
theorem rnd_s {az : Int → Int} {s h n : Int} (hn : 0 ≤ n) : fup (rnd az s h n) (8 + n) (rdS s (n + 1).toNat / 65536 % (h + 1)) = rnd az s h (n + 1) := by
  funext j
  by_cases e : j = 8 + n
  · rw [e, fup_s]
    unfold rnd
    rw [if_pos (by omega), show 8 + n - 8 + 1 = n + 1 by omega]
  · rw [fup_n _ _ e]
    unfold rnd
    by_cases e2 : 8 ≤ j ∧ j < 8 + n
    · rw [if_pos e2, if_pos (by omega)]
    · rw [if_neg e2, if_neg (by omega)]
set_option maxHeartbeats 4000000 in
theorem ct_random {g : GV} (hg : GOk g) {ad : Nat → Nat} {M : Nat → Int → Int} (hA : okA (M 0)) (hW : waterZ (M 0) ≤ 1000000) (h3 : 0 ≤ M 3 0 ∧ M 3 0 ≤ 4) {s : Int} (hs : -2147483648 ≤ s ∧ s ≤ 2147483647) {h : Int} (hh : -2147483648 ≤ h ∧ h ≤ 2147483647) : CMi g ad yX5_random cX5_random 6 9 .int [iV s, iV h] M (fun z M' => (cod ((0 ≤ s ∧ s ≤ 999999) ∧ (0 ≤ h ∧ h ≤ 99)) True True (M' 4 0) ∧ fr SC M M') ∨ (((0 ≤ s ∧ s ≤ 999999) ∧ (0 ≤ h ∧ h ≤ 99)) ∧ mtd M M' ∧ z = M' 0 6 ∧ chg (M 0) (rnd (M 0) s h (mny (M 0))) (M' 0))) := by
  refine wm_ofi hg (by decide +kernel) (Nat.le_of_ble_eq_true rfl) (fun F G R9 => ?_)
  have G : FxOk g F cX5_random RX5 6 9 := G
  refine wp_loc (L' := [(0, _), (1, _), (2, _)]) rfl ?_
  have hmm := hA.L.m
  refine wp_aload_n (pc := 0) G dX5_random_0 rfl 0 rfl ?_
  refine wp_iload_n (pc := 1) G dX5_random_1 rfl 1 rfl ?_
  refine wp_i2l (pc := 2) G dX5_random_2 (by omega) ?_
  refine wp_lconst0 (pc := 3) G dX5_random_3 ?_
  refine wp_ldc2 (z := 999999) (pc := 4) G dX5_random_4 q2263 (by decide +kernel) ?_
  refine ws_calli3 (pc := 7) G dX5_random_7 kX5_65 (ct_in hg (by omega) (by omega) (by omega)) (by decide) (by decide) (Nat.le_of_ble_eq_true rfl) (fun z_7 h_7 => ?_)
  refine wp_if_eq (tgt := 29) (pc := 10) G dX5_random_10 h_7.r (by decide) (fun h_10 => ?_) (fun h_10 => ?_)
  · have h_10 := h_7.f h_10
    refine wp_iconst (pc := 29) G dX5_random_29 ?_
    refine wp_iconst (pc := 30) G dX5_random_30 ?_
    refine wp_iconst (pc := 31) G dX5_random_31 ?_
    refine wm_calli3 (pc := 32) G dX5_random_32 kX5_183 (ct_goes hg (by decide) (by decide) (by decide)) (by decide) (by decide) (Nat.le_of_ble_eq_true rfl) (fun z_32 M_32 h_32 => ?_)
    obtain ⟨hm32, hb32⟩ := h_32
    have gc := goes_c (P := (0 ≤ s ∧ s ≤ 999999) ∧ (0 ≤ h ∧ h ≤ 99)) (Q := True) (R := True) (by first | exact isB.i1 ⟨h_10, h_22⟩ | exact isB.i0 (fun q => h_10 q.1) | exact isB.i0 (fun q => h_22 q.2)) (isB.i1 trivial) (isB.i1 trivial)
    have f4 : fr SC M M_32 := by rw [hm32]; exact fr.rf.s1 (by decide)
    have g4 : ∀ t, M_32 = ms1 M 4 t → M_32 4 0 = t := fun t q => by rw [q]; rfl
    have g4 := g4 _ hm32
    refine wp_if_ne (tgt := 40) (pc := 35) G dX5_random_35 hb32.r (by decide) (fun h_35 => ?_) (fun h_35 => ?_)
    · have h_35 := hb32.t h_35
      have gc := (gc.resolve_left (fun q => q.1 h_35)).2
      refine wp_aload_n (pc := 40) G dX5_random_40 rfl 0 rfl ?_
      refine wm_callv0 (pc := 41) G dX5_random_41 kX5_187 (ct_save hg (by rw [hm32]; exact h3)) (by decide) (by decide) (Nat.le_of_ble_eq_true rfl) (fun M_41 h_41 => ?_)
      rw [hm32] at h_41
      obtain ⟨s0, sm0⟩ := sv_p h_41 h_35
      refine wp_aload_n (pc := 44) G dX5_random_44 rfl 0 rfl ?_
      refine wm_callv0 (pc := 45) G dX5_random_45 kX5_192 (ct_remembers hg (by rw [s0]; exact hA) (by rw [s0]; omega)) (by decide) (by decide) (Nat.le_of_ble_eq_true rfl) (fun M_45 h_45 => ?_)
      have hr45 := h_45
      have r0 : M_45 0 = M 0 := by rw [hr45.1 0 (by decide), s0]
      have sm1 := sm0.fr hr45.1 (by decide)
      refine wp_iload_n (pc := 48) G dX5_random_48 rfl 1 rfl ?_
      refine wp_i2l (pc := 49) G dX5_random_49 (by omega) ?_
      refine wp_lstore_n (L' := [(3, _), (0, _), (1, _), (2, _)]) (pc := 50) G dX5_random_50 rfl (by decide) rfl ?_
      refine wp_iconst (pc := 51) G dX5_random_51 ?_
      refine wp_istore (L' := [(5, _), (3, _), (0, _), (1, _), (2, _)]) (pc := 52) G dX5_random_52 (by decide) rfl ?_
      refine wp_sub (L' := [(5, _), (0, _), (3, _), (2, _)]) [0, 2, 1, 4] rfl ?_
      have loop : ∀ (n : Nat) (k : Int) (M1 : Nat → Int → Int), (0 ≤ k ∧ k ≤ mny (M 0)) → (mny (M 0) + 1 ≤ k + n) → (fr [0] M_45 M1) → (M1 0 = rnd (M 0) s h k) → Wp g F [MB g ad M1] 0 0 54 [(5, iV k), (0, .ref (ad 25)), (3, jV (rdS s k.toNat)), (2, iV h)] [] := by
        intro n
        induction n with
        | zero =>
          intro k M1 hk hn hf hz
          exfalso
          omega
        | succ n ih =>
          intro k M1 hk hn hf hz
          have hrs := rdS_r (s := s) gc.1.1 k.toNat
          have hmz : mny (M1 0) = mny (M 0) := by unfold mny; rw [hz]; unfold rnd; rw [if_neg (by omega), if_neg (by omega)]
          refine wp_iload (pc := 54) G dX5_random_54 0 rfl ?_
          refine wp_aload_n (pc := 56) G dX5_random_56 rfl 1 rfl ?_
          refine wm_calli0 (pc := 57) G dX5_random_57 kX5_61 (ct_many hg) (by decide) (by decide) (Nat.le_of_ble_eq_true rfl) (fun z_57 M_57 h_57 => ?_)
          obtain ⟨rfl, h_57⟩ := h_57
          rw [hmz] at h_57
          subst h_57
          refine wp_icmp_ge (tgt := 103) (pc := 60) G dX5_random_60 (by omega) (by omega) (by decide) (fun h_60 => ?_) (fun h_60 => ?_)
          · have ek : k = mny (M 0) := by omega
            subst ek
            have z2 := hz
            have ro := rem_ok (M2 := M1) s0 hA (by omega) hr45 (hf 15 (by decide)) (hf 16 (by decide)) (hf 17 (by decide)) ⟨by rw [z2]; exact if_neg (by omega), by rw [z2]; exact if_neg (by omega)⟩
            refine wp_aload_n (pc := 103) G dX5_random_103 rfl 1 rfl ?_
            refine wm_callv0 (pc := 104) G dX5_random_104 kX5_195 (ct_changes hg (by rw [z2]; exact rnd_L hA.L gc.1.2 (by omega)) ro.1 ro.2.1 ro.2.2.1 ro.2.2.2.1 ro.2.2.2.2) (by decide) (by decide) (Nat.le_of_ble_eq_true rfl) (fun M_104 h_104 => ?_)
            obtain ⟨hf104, hc104⟩ := h_104
            have ch9 := rem_ch (M2 := M1) s0 hA hr45 (hf 15 (by decide)) (hf 16 (by decide)) hc104
            refine wp_aload_n (pc := 107) G dX5_random_107 rfl 1 rfl ?_
            refine wm_get_0 (pc := 108) G dX5_random_108 fX5_7_4 ?_
            refine wp_bipush (pc := 111) G dX5_random_111 (by decide) ?_
            refine wm_ald_0 (pc := 113) G dX5_random_113 (by omega) ?_
            refine wp_l2i (pc := 114) G dX5_random_114 ?_
            exact wm_iret (pc := 115) G R9 dX5_random_115 (Or.inr ⟨gc.1, (sm1.fr hf (by decide)).fr hf104 (by decide), rfl, by rw [← z2]; exact ch9⟩)
          · refine wp_ldc2 (z := 1103515245) (pc := 63) G dX5_random_63 q2264 (by decide +kernel) ?_
            refine wp_lload_n (pc := 66) G dX5_random_66 rfl 2 rfl ?_
            refine wp_lmul (pc := 67) G dX5_random_67 ?_
            refine wp_ldc2 (z := 12345) (pc := 68) G dX5_random_68 q2265 (by decide +kernel) ?_
            refine wp_ladd (pc := 71) G dX5_random_71 ?_
            refine wp_ldc2 (z := 2147483648) (pc := 72) G dX5_random_72 q2266 (by decide +kernel) ?_
            refine wp_lrem (pc := 75) G dX5_random_75 (by omega) (by omega) ?_
            refine wp_lstore_n (L' := [(3, _), (5, _), (0, _), (2, _)]) (pc := 76) G dX5_random_76 rfl (by decide) rfl ?_
            refine wp_aload_n (pc := 77) G dX5_random_77 rfl 2 rfl ?_
            refine wm_get_0 (pc := 78) G dX5_random_78 fX5_7_4 ?_
            refine wp_bipush (pc := 81) G dX5_random_81 (by decide) ?_
            refine wp_iload (pc := 83) G dX5_random_83 1 rfl ?_
            refine wp_iadd (pc := 85) G dX5_random_85 ?_
            refine wp_lload_n (pc := 86) G dX5_random_86 rfl 0 rfl ?_
            refine wp_ldc2 (z := 65536) (pc := 87) G dX5_random_87 q2267 (by decide +kernel) ?_
            refine wp_ldiv (pc := 90) G dX5_random_90 (by have := Int.emod_nonneg (1103515245 * rdS s k.toNat + 12345) (show (2147483648 : Int) ≠ 0 by decide); have := Int.emod_lt_of_pos (1103515245 * rdS s k.toNat + 12345) (show (0 : Int) < 2147483648 by decide); omega) (by omega) ?_
            refine wp_iload_n (pc := 91) G dX5_random_91 rfl 3 rfl ?_
            refine wp_i2l (pc := 92) G dX5_random_92 (by omega) ?_
            refine wp_lconst1 (pc := 93) G dX5_random_93 ?_
            refine wp_ladd (pc := 94) G dX5_random_94 ?_
            refine wp_lrem (pc := 95) G dX5_random_95 (by have := Int.emod_nonneg (1103515245 * rdS s k.toNat + 12345) (show (2147483648 : Int) ≠ 0 by decide); have := Int.emod_lt_of_pos (1103515245 * rdS s k.toNat + 12345) (show (0 : Int) < 2147483648 by decide); omega) (by omega) ?_
            refine wm_ast_0 (pc := 96) G dX5_random_96 (by omega) ?_
            refine wp_iinc (L' := [(5, _), (3, _), (0, _), (2, _)]) (pc := 97) G dX5_random_97 1 rfl (by decide) rfl ?_
            refine wp_goto (tgt := 54) (pc := 100) G dX5_random_100 (by decide) ?_
            refine wp_sub (L' := [(5, _), (0, _), (3, _), (2, _)]) [0, 2, 1, 3] rfl ?_
            have es : (1103515245 * rdS s k.toNat + 12345) % 2147483648 = rdS s (k + 1).toNat := by rw [tn_s hk.1]; rfl
            rw [es]
            exact ih (k + 1) _ (by omega) (by omega) (hf.a1 (by decide)) (by rw [← rnd_s hk.1, ← hz]; rfl)
      exact loop 38 0 _ (by omega) (by omega) fr.rf (by rw [r0]; funext j; unfold rnd; rw [if_neg (by omega)])
    · have h_35 := hb32.f h_35
      refine wp_iconst (pc := 38) G dX5_random_38 ?_
      exact wm_iret (pc := 39) G R9 dX5_random_39 (Or.inl ⟨by rw [g4]; exact (gc.resolve_right (fun q => h_35 q.1)).2, f4⟩)
  · have h_10 := h_7.t h_10
    refine wp_iload_n (pc := 13) G dX5_random_13 rfl 2 rfl ?_
    refine wp_i2l (pc := 14) G dX5_random_14 (by omega) ?_
    refine wp_lconst0 (pc := 15) G dX5_random_15 ?_
    refine wp_ldc2 (z := 99) (pc := 16) G dX5_random_16 q2206 (by decide +kernel) ?_
    refine ws_calli3 (pc := 19) G dX5_random_19 kX5_65 (ct_in hg (by omega) (by omega) (by omega)) (by decide) (by decide) (Nat.le_of_ble_eq_true rfl) (fun z_19 h_19 => ?_)
    refine wp_if_eq (tgt := 29) (pc := 22) G dX5_random_22 h_19.r (by decide) (fun h_22 => ?_) (fun h_22 => ?_)
    · have h_22 := h_19.f h_22
      refine wp_iconst (pc := 29) G dX5_random_29 ?_
      refine wp_iconst (pc := 30) G dX5_random_30 ?_
      refine wp_iconst (pc := 31) G dX5_random_31 ?_
      refine wm_calli3 (pc := 32) G dX5_random_32 kX5_183 (ct_goes hg (by decide) (by decide) (by decide)) (by decide) (by decide) (Nat.le_of_ble_eq_true rfl) (fun z_32 M_32 h_32 => ?_)
      obtain ⟨hm32, hb32⟩ := h_32
      have gc := goes_c (P := (0 ≤ s ∧ s ≤ 999999) ∧ (0 ≤ h ∧ h ≤ 99)) (Q := True) (R := True) (by first | exact isB.i1 ⟨h_10, h_22⟩ | exact isB.i0 (fun q => h_10 q.1) | exact isB.i0 (fun q => h_22 q.2)) (isB.i1 trivial) (isB.i1 trivial)
      have f4 : fr SC M M_32 := by rw [hm32]; exact fr.rf.s1 (by decide)
      have g4 : ∀ t, M_32 = ms1 M 4 t → M_32 4 0 = t := fun t q => by rw [q]; rfl
      have g4 := g4 _ hm32
      refine wp_if_ne (tgt := 40) (pc := 35) G dX5_random_35 hb32.r (by decide) (fun h_35 => ?_) (fun h_35 => ?_)
      · have h_35 := hb32.t h_35
        have gc := (gc.resolve_left (fun q => q.1 h_35)).2
        refine wp_aload_n (pc := 40) G dX5_random_40 rfl 0 rfl ?_
        refine wm_callv0 (pc := 41) G dX5_random_41 kX5_187 (ct_save hg (by rw [hm32]; exact h3)) (by decide) (by decide) (Nat.le_of_ble_eq_true rfl) (fun M_41 h_41 => ?_)
        rw [hm32] at h_41
        obtain ⟨s0, sm0⟩ := sv_p h_41 h_35
        refine wp_aload_n (pc := 44) G dX5_random_44 rfl 0 rfl ?_
        refine wm_callv0 (pc := 45) G dX5_random_45 kX5_192 (ct_remembers hg (by rw [s0]; exact hA) (by rw [s0]; omega)) (by decide) (by decide) (Nat.le_of_ble_eq_true rfl) (fun M_45 h_45 => ?_)
        have hr45 := h_45
        have r0 : M_45 0 = M 0 := by rw [hr45.1 0 (by decide), s0]
        have sm1 := sm0.fr hr45.1 (by decide)
        refine wp_iload_n (pc := 48) G dX5_random_48 rfl 1 rfl ?_
        refine wp_i2l (pc := 49) G dX5_random_49 (by omega) ?_
        refine wp_lstore_n (L' := [(3, _), (0, _), (1, _), (2, _)]) (pc := 50) G dX5_random_50 rfl (by decide) rfl ?_
        refine wp_iconst (pc := 51) G dX5_random_51 ?_
        refine wp_istore (L' := [(5, _), (3, _), (0, _), (1, _), (2, _)]) (pc := 52) G dX5_random_52 (by decide) rfl ?_
        refine wp_sub (L' := [(5, _), (0, _), (3, _), (2, _)]) [0, 2, 1, 4] rfl ?_
        have loop : ∀ (n : Nat) (k : Int) (M1 : Nat → Int → Int), (0 ≤ k ∧ k ≤ mny (M 0)) → (mny (M 0) + 1 ≤ k + n) → (fr [0] M_45 M1) → (M1 0 = rnd (M 0) s h k) → Wp g F [MB g ad M1] 0 0 54 [(5, iV k), (0, .ref (ad 25)), (3, jV (rdS s k.toNat)), (2, iV h)] [] := by
          intro n
          induction n with
          | zero =>
            intro k M1 hk hn hf hz
            exfalso
            omega
          | succ n ih =>
            intro k M1 hk hn hf hz
            have hrs := rdS_r (s := s) gc.1.1 k.toNat
            have hmz : mny (M1 0) = mny (M 0) := by unfold mny; rw [hz]; unfold rnd; rw [if_neg (by omega), if_neg (by omega)]
            refine wp_iload (pc := 54) G dX5_random_54 0 rfl ?_
            refine wp_aload_n (pc := 56) G dX5_random_56 rfl 1 rfl ?_
            refine wm_calli0 (pc := 57) G dX5_random_57 kX5_61 (ct_many hg) (by decide) (by decide) (Nat.le_of_ble_eq_true rfl) (fun z_57 M_57 h_57 => ?_)
            obtain ⟨rfl, h_57⟩ := h_57
            rw [hmz] at h_57
            subst h_57
            refine wp_icmp_ge (tgt := 103) (pc := 60) G dX5_random_60 (by omega) (by omega) (by decide) (fun h_60 => ?_) (fun h_60 => ?_)
            · have ek : k = mny (M 0) := by omega
              subst ek
              have z2 := hz
              have ro := rem_ok (M2 := M1) s0 hA (by omega) hr45 (hf 15 (by decide)) (hf 16 (by decide)) (hf 17 (by decide)) ⟨by rw [z2]; exact if_neg (by omega), by rw [z2]; exact if_neg (by omega)⟩
              refine wp_aload_n (pc := 103) G dX5_random_103 rfl 1 rfl ?_
              refine wm_callv0 (pc := 104) G dX5_random_104 kX5_195 (ct_changes hg (by rw [z2]; exact rnd_L hA.L gc.1.2 (by omega)) ro.1 ro.2.1 ro.2.2.1 ro.2.2.2.1 ro.2.2.2.2) (by decide) (by decide) (Nat.le_of_ble_eq_true rfl) (fun M_104 h_104 => ?_)
              obtain ⟨hf104, hc104⟩ := h_104
              have ch9 := rem_ch (M2 := M1) s0 hA hr45 (hf 15 (by decide)) (hf 16 (by decide)) hc104
              refine wp_aload_n (pc := 107) G dX5_random_107 rfl 1 rfl ?_
              refine wm_get_0 (pc := 108) G dX5_random_108 fX5_7_4 ?_
              refine wp_bipush (pc := 111) G dX5_random_111 (by decide) ?_
              refine wm_ald_0 (pc := 113) G dX5_random_113 (by omega) ?_
              refine wp_l2i (pc := 114) G dX5_random_114 ?_
              exact wm_iret (pc := 115) G R9 dX5_random_115 (Or.inr ⟨gc.1, (sm1.fr hf (by decide)).fr hf104 (by decide), rfl, by rw [← z2]; exact ch9⟩)
            · refine wp_ldc2 (z := 1103515245) (pc := 63) G dX5_random_63 q2264 (by decide +kernel) ?_
              refine wp_lload_n (pc := 66) G dX5_random_66 rfl 2 rfl ?_
              refine wp_lmul (pc := 67) G dX5_random_67 ?_
              refine wp_ldc2 (z := 12345) (pc := 68) G dX5_random_68 q2265 (by decide +kernel) ?_
              refine wp_ladd (pc := 71) G dX5_random_71 ?_
              refine wp_ldc2 (z := 2147483648) (pc := 72) G dX5_random_72 q2266 (by decide +kernel) ?_
              refine wp_lrem (pc := 75) G dX5_random_75 (by omega) (by omega) ?_
              refine wp_lstore_n (L' := [(3, _), (5, _), (0, _), (2, _)]) (pc := 76) G dX5_random_76 rfl (by decide) rfl ?_
              refine wp_aload_n (pc := 77) G dX5_random_77 rfl 2 rfl ?_
              refine wm_get_0 (pc := 78) G dX5_random_78 fX5_7_4 ?_
              refine wp_bipush (pc := 81) G dX5_random_81 (by decide) ?_
              refine wp_iload (pc := 83) G dX5_random_83 1 rfl ?_
              refine wp_iadd (pc := 85) G dX5_random_85 ?_
              refine wp_lload_n (pc := 86) G dX5_random_86 rfl 0 rfl ?_
              refine wp_ldc2 (z := 65536) (pc := 87) G dX5_random_87 q2267 (by decide +kernel) ?_
              refine wp_ldiv (pc := 90) G dX5_random_90 (by have := Int.emod_nonneg (1103515245 * rdS s k.toNat + 12345) (show (2147483648 : Int) ≠ 0 by decide); have := Int.emod_lt_of_pos (1103515245 * rdS s k.toNat + 12345) (show (0 : Int) < 2147483648 by decide); omega) (by omega) ?_
              refine wp_iload_n (pc := 91) G dX5_random_91 rfl 3 rfl ?_
              refine wp_i2l (pc := 92) G dX5_random_92 (by omega) ?_
              refine wp_lconst1 (pc := 93) G dX5_random_93 ?_
              refine wp_ladd (pc := 94) G dX5_random_94 ?_
              refine wp_lrem (pc := 95) G dX5_random_95 (by have := Int.emod_nonneg (1103515245 * rdS s k.toNat + 12345) (show (2147483648 : Int) ≠ 0 by decide); have := Int.emod_lt_of_pos (1103515245 * rdS s k.toNat + 12345) (show (0 : Int) < 2147483648 by decide); omega) (by omega) ?_
              refine wm_ast_0 (pc := 96) G dX5_random_96 (by omega) ?_
              refine wp_iinc (L' := [(5, _), (3, _), (0, _), (2, _)]) (pc := 97) G dX5_random_97 1 rfl (by decide) rfl ?_
              refine wp_goto (tgt := 54) (pc := 100) G dX5_random_100 (by decide) ?_
              refine wp_sub (L' := [(5, _), (0, _), (3, _), (2, _)]) [0, 2, 1, 3] rfl ?_
              have es : (1103515245 * rdS s k.toNat + 12345) % 2147483648 = rdS s (k + 1).toNat := by rw [tn_s hk.1]; rfl
              rw [es]
              exact ih (k + 1) _ (by omega) (by omega) (hf.a1 (by decide)) (by rw [← rnd_s hk.1, ← hz]; rfl)
        exact loop 38 0 _ (by omega) (by omega) fr.rf (by rw [r0]; funext j; unfold rnd; rw [if_neg (by omega)])
      · have h_35 := hb32.f h_35
        refine wp_iconst (pc := 38) G dX5_random_38 ?_
        exact wm_iret (pc := 39) G R9 dX5_random_39 (Or.inl ⟨by rw [g4]; exact (gc.resolve_right (fun q => h_35 q.1)).2, f4⟩)
    · have h_22 := h_19.t h_22
      refine wp_iconst (pc := 25) G dX5_random_25 ?_
      refine wp_goto (tgt := 30) (pc := 26) G dX5_random_26 (by decide) ?_
      refine wp_iconst (pc := 30) G dX5_random_30 ?_
      refine wp_iconst (pc := 31) G dX5_random_31 ?_
      refine wm_calli3 (pc := 32) G dX5_random_32 kX5_183 (ct_goes hg (by decide) (by decide) (by decide)) (by decide) (by decide) (Nat.le_of_ble_eq_true rfl) (fun z_32 M_32 h_32 => ?_)
      obtain ⟨hm32, hb32⟩ := h_32
      have gc := goes_c (P := (0 ≤ s ∧ s ≤ 999999) ∧ (0 ≤ h ∧ h ≤ 99)) (Q := True) (R := True) (by first | exact isB.i1 ⟨h_10, h_22⟩ | exact isB.i0 (fun q => h_10 q.1) | exact isB.i0 (fun q => h_22 q.2)) (isB.i1 trivial) (isB.i1 trivial)
      have f4 : fr SC M M_32 := by rw [hm32]; exact fr.rf.s1 (by decide)
      have g4 : ∀ t, M_32 = ms1 M 4 t → M_32 4 0 = t := fun t q => by rw [q]; rfl
      have g4 := g4 _ hm32
      refine wp_if_ne (tgt := 40) (pc := 35) G dX5_random_35 hb32.r (by decide) (fun h_35 => ?_) (fun h_35 => ?_)
      · have h_35 := hb32.t h_35
        have gc := (gc.resolve_left (fun q => q.1 h_35)).2
        refine wp_aload_n (pc := 40) G dX5_random_40 rfl 0 rfl ?_
        refine wm_callv0 (pc := 41) G dX5_random_41 kX5_187 (ct_save hg (by rw [hm32]; exact h3)) (by decide) (by decide) (Nat.le_of_ble_eq_true rfl) (fun M_41 h_41 => ?_)
        rw [hm32] at h_41
        obtain ⟨s0, sm0⟩ := sv_p h_41 h_35
        refine wp_aload_n (pc := 44) G dX5_random_44 rfl 0 rfl ?_
        refine wm_callv0 (pc := 45) G dX5_random_45 kX5_192 (ct_remembers hg (by rw [s0]; exact hA) (by rw [s0]; omega)) (by decide) (by decide) (Nat.le_of_ble_eq_true rfl) (fun M_45 h_45 => ?_)
        have hr45 := h_45
        have r0 : M_45 0 = M 0 := by rw [hr45.1 0 (by decide), s0]
        have sm1 := sm0.fr hr45.1 (by decide)
        refine wp_iload_n (pc := 48) G dX5_random_48 rfl 1 rfl ?_
        refine wp_i2l (pc := 49) G dX5_random_49 (by omega) ?_
        refine wp_lstore_n (L' := [(3, _), (0, _), (1, _), (2, _)]) (pc := 50) G dX5_random_50 rfl (by decide) rfl ?_
        refine wp_iconst (pc := 51) G dX5_random_51 ?_
        refine wp_istore (L' := [(5, _), (3, _), (0, _), (1, _), (2, _)]) (pc := 52) G dX5_random_52 (by decide) rfl ?_
        refine wp_sub (L' := [(5, _), (0, _), (3, _), (2, _)]) [0, 2, 1, 4] rfl ?_
        have loop : ∀ (n : Nat) (k : Int) (M1 : Nat → Int → Int), (0 ≤ k ∧ k ≤ mny (M 0)) → (mny (M 0) + 1 ≤ k + n) → (fr [0] M_45 M1) → (M1 0 = rnd (M 0) s h k) → Wp g F [MB g ad M1] 0 0 54 [(5, iV k), (0, .ref (ad 25)), (3, jV (rdS s k.toNat)), (2, iV h)] [] := by
          intro n
          induction n with
          | zero =>
            intro k M1 hk hn hf hz
            exfalso
            omega
          | succ n ih =>
            intro k M1 hk hn hf hz
            have hrs := rdS_r (s := s) gc.1.1 k.toNat
            have hmz : mny (M1 0) = mny (M 0) := by unfold mny; rw [hz]; unfold rnd; rw [if_neg (by omega), if_neg (by omega)]
            refine wp_iload (pc := 54) G dX5_random_54 0 rfl ?_
            refine wp_aload_n (pc := 56) G dX5_random_56 rfl 1 rfl ?_
            refine wm_calli0 (pc := 57) G dX5_random_57 kX5_61 (ct_many hg) (by decide) (by decide) (Nat.le_of_ble_eq_true rfl) (fun z_57 M_57 h_57 => ?_)
            obtain ⟨rfl, h_57⟩ := h_57
            rw [hmz] at h_57
            subst h_57
            refine wp_icmp_ge (tgt := 103) (pc := 60) G dX5_random_60 (by omega) (by omega) (by decide) (fun h_60 => ?_) (fun h_60 => ?_)
            · have ek : k = mny (M 0) := by omega
              subst ek
              have z2 := hz
              have ro := rem_ok (M2 := M1) s0 hA (by omega) hr45 (hf 15 (by decide)) (hf 16 (by decide)) (hf 17 (by decide)) ⟨by rw [z2]; exact if_neg (by omega), by rw [z2]; exact if_neg (by omega)⟩
              refine wp_aload_n (pc := 103) G dX5_random_103 rfl 1 rfl ?_
              refine wm_callv0 (pc := 104) G dX5_random_104 kX5_195 (ct_changes hg (by rw [z2]; exact rnd_L hA.L gc.1.2 (by omega)) ro.1 ro.2.1 ro.2.2.1 ro.2.2.2.1 ro.2.2.2.2) (by decide) (by decide) (Nat.le_of_ble_eq_true rfl) (fun M_104 h_104 => ?_)
              obtain ⟨hf104, hc104⟩ := h_104
              have ch9 := rem_ch (M2 := M1) s0 hA hr45 (hf 15 (by decide)) (hf 16 (by decide)) hc104
              refine wp_aload_n (pc := 107) G dX5_random_107 rfl 1 rfl ?_
              refine wm_get_0 (pc := 108) G dX5_random_108 fX5_7_4 ?_
              refine wp_bipush (pc := 111) G dX5_random_111 (by decide) ?_
              refine wm_ald_0 (pc := 113) G dX5_random_113 (by omega) ?_
              refine wp_l2i (pc := 114) G dX5_random_114 ?_
              exact wm_iret (pc := 115) G R9 dX5_random_115 (Or.inr ⟨gc.1, (sm1.fr hf (by decide)).fr hf104 (by decide), rfl, by rw [← z2]; exact ch9⟩)
            · refine wp_ldc2 (z := 1103515245) (pc := 63) G dX5_random_63 q2264 (by decide +kernel) ?_
              refine wp_lload_n (pc := 66) G dX5_random_66 rfl 2 rfl ?_
              refine wp_lmul (pc := 67) G dX5_random_67 ?_
              refine wp_ldc2 (z := 12345) (pc := 68) G dX5_random_68 q2265 (by decide +kernel) ?_
              refine wp_ladd (pc := 71) G dX5_random_71 ?_
              refine wp_ldc2 (z := 2147483648) (pc := 72) G dX5_random_72 q2266 (by decide +kernel) ?_
              refine wp_lrem (pc := 75) G dX5_random_75 (by omega) (by omega) ?_
              refine wp_lstore_n (L' := [(3, _), (5, _), (0, _), (2, _)]) (pc := 76) G dX5_random_76 rfl (by decide) rfl ?_
              refine wp_aload_n (pc := 77) G dX5_random_77 rfl 2 rfl ?_
              refine wm_get_0 (pc := 78) G dX5_random_78 fX5_7_4 ?_
              refine wp_bipush (pc := 81) G dX5_random_81 (by decide) ?_
              refine wp_iload (pc := 83) G dX5_random_83 1 rfl ?_
              refine wp_iadd (pc := 85) G dX5_random_85 ?_
              refine wp_lload_n (pc := 86) G dX5_random_86 rfl 0 rfl ?_
              refine wp_ldc2 (z := 65536) (pc := 87) G dX5_random_87 q2267 (by decide +kernel) ?_
              refine wp_ldiv (pc := 90) G dX5_random_90 (by have := Int.emod_nonneg (1103515245 * rdS s k.toNat + 12345) (show (2147483648 : Int) ≠ 0 by decide); have := Int.emod_lt_of_pos (1103515245 * rdS s k.toNat + 12345) (show (0 : Int) < 2147483648 by decide); omega) (by omega) ?_
              refine wp_iload_n (pc := 91) G dX5_random_91 rfl 3 rfl ?_
              refine wp_i2l (pc := 92) G dX5_random_92 (by omega) ?_
              refine wp_lconst1 (pc := 93) G dX5_random_93 ?_
              refine wp_ladd (pc := 94) G dX5_random_94 ?_
              refine wp_lrem (pc := 95) G dX5_random_95 (by have := Int.emod_nonneg (1103515245 * rdS s k.toNat + 12345) (show (2147483648 : Int) ≠ 0 by decide); have := Int.emod_lt_of_pos (1103515245 * rdS s k.toNat + 12345) (show (0 : Int) < 2147483648 by decide); omega) (by omega) ?_
              refine wm_ast_0 (pc := 96) G dX5_random_96 (by omega) ?_
              refine wp_iinc (L' := [(5, _), (3, _), (0, _), (2, _)]) (pc := 97) G dX5_random_97 1 rfl (by decide) rfl ?_
              refine wp_goto (tgt := 54) (pc := 100) G dX5_random_100 (by decide) ?_
              refine wp_sub (L' := [(5, _), (0, _), (3, _), (2, _)]) [0, 2, 1, 3] rfl ?_
              have es : (1103515245 * rdS s k.toNat + 12345) % 2147483648 = rdS s (k + 1).toNat := by rw [tn_s hk.1]; rfl
              rw [es]
              exact ih (k + 1) _ (by omega) (by omega) (hf.a1 (by decide)) (by rw [← rnd_s hk.1, ← hz]; rfl)
        exact loop 38 0 _ (by omega) (by omega) fr.rf (by rw [r0]; funext j; unfold rnd; rw [if_neg (by omega)])
      · have h_35 := hb32.f h_35
        refine wp_iconst (pc := 38) G dX5_random_38 ?_
        exact wm_iret (pc := 39) G R9 dX5_random_39 (Or.inl ⟨by rw [g4]; exact (gc.resolve_right (fun q => h_35 q.1)).2, f4⟩)
