/-! EVAPORATING -/
set_option maxRecDepth 100000
section SP14
variable {az az' : Int → Int}
/-- what the lake k loses in a round -/
noncomputable def evA (az : Int → Int) (k : Int) : Int := if wetZ az (az (152 + k)) < az (224 + k) then wetZ az (az (152 + k)) else az (224 + k)
/-- the first n lakes of az have lost what they lose in a round -/
def evR (az : Int → Int) : Nat → (Int → Int) → Prop
  | 0, Z => Z = az
  | n + 1, Z => ∃ Y W, evR az n Y ∧ Takes Y (ordK az n) (evA az (ordK az n)) W ∧ Z = fup W 4 (W 4 + evA az (ordK az n))
theorem evA_r (h : okA az) {k : Int} (q : isK az k) : 0 ≤ evA az k ∧ evA az k ≤ az (224 + k) := by
  have h1 := h.v k q.1
  have h2 := (cntP_r (fun c => inS (az (152 + k)) c ∧ wetP az c) (mny az).toNat).1
  unfold evA wetZ
  split
  · omega
  · omega
theorem evR_u : ∀ (n : Nat) (Z Z' : Int → Int), evR az n Z → evR az n Z' → Z = Z'
  | 0, _, _, h, h' => h.trans h'.symm
  | n + 1, _, _, ⟨Y, W, h1, h2, h3⟩, ⟨Y', W', h1', h2', h3'⟩ => by
    have e := evR_u n Y Y' h1 h1'
    subst e
    have e2 := h2.u h2'
    subst e2
    rw [h3, h3']
/-- the lakes from the n-th on are as they were -/
def later (az Y : Int → Int) (n : Int) : Prop := ∀ i, n ≤ i ∧ i < nL az → isK Y (ordK az i) ∧ Y (152 + ordK az i) = az (152 + ordK az i) ∧ Y (224 + ordK az i) = az (224 + ordK az i)
theorem evR_ok (h : okA az) : ∀ (n : Nat), (n : Int) ≤ nL az → ∃ Z, evR az n Z ∧ okA Z ∧ sameB az Z ∧ Z 3 = az 3 ∧ Z 5 = az 5 ∧ waterZ Z ≤ waterZ az ∧ later az Z n
  | 0, _ => ⟨az, rfl, h, sameB.rf, rfl, rfl, Int.le_refl _, fun i hi => ⟨ordK_k h.L (by omega), rfl, rfl⟩⟩
  | n + 1, hn => by
    obtain ⟨Y, y1, y2, y3, y4, y5, y6, y7⟩ := evR_ok h n (by omega)
    have hk := ordK_k h.L (n := n) (by omega)
    have hr := evA_r h hk
    obtain ⟨q1, q2, q3⟩ := y7 n (by omega)
    obtain ⟨W, w1, w2, w3, w4, w5, w6⟩ := take_ok y2 q1 (r := evA az (ordK az n)) (by rw [q3]; exact hr)
    have hb : sameB W (fup W 4 (W 4 + evA az (ordK az n))) := sameB.rf.f (by omega)
    have hK := w2.to hb (fun j hj => fup_n _ _ (by omega))
    have hw : waterZ (fup W 4 (W 4 + evA az (ordK az n))) = waterZ W := by
      rw [water_sm, water_sm]
      exact sm_e 72 (fun i hi => by unfold wtF; rw [fup_n _ _ (by omega), fup_n _ _ (by omega)])
    refine ⟨_, ⟨Y, W, y1, w1, rfl⟩, hK, (y3.tr w3).tr hb, ?_, ?_, by omega, fun i hi => ?_⟩
    · rw [fup_n _ _ (by omega), w4 3 (by omega), y4]
    · rw [fup_n _ _ (by omega), w4 5 (by omega), y5]
    · obtain ⟨p1, p2, p3⟩ := y7 i (by omega)
      have hne : ordK az i ≠ ordK az n := fun e => by
        have := ordK_i h.L (by omega) (by omega) e
        omega
      obtain ⟨g1, g2, g3, _⟩ := w6 (ordK az i) p1.1 p1.2 hne
      have := p1.1
      refine ⟨⟨p1.1, ?_⟩, ?_, ?_⟩
      · rw [fup_n _ _ (by omega)]; exact g1
      · rw [fup_n _ _ (by omega), g2]; exact p2
      · rw [fup_n _ _ (by omega), g3]; exact p3
/-- a round -/
def evS (az Z : Int → Int) : Prop := evR az (nL az).toNat Z
theorem evS_p (h : okA az) {Z : Int → Int} (q : evS az Z) : okA Z ∧ sameB az Z ∧ Z 3 = az 3 ∧ Z 5 = az 5 ∧ waterZ Z ≤ waterZ az := by
  have hn := nL_r h.L
  obtain ⟨Z2, z1, z2, z3, z4, z5, z6, _⟩ := evR_ok h (nL az).toNat (by omega)
  rw [evR_u _ Z Z2 q z1]
  exact ⟨z2, z3, z4, z5, z6⟩
/-- rounds -/
def evN (az : Int → Int) : Nat → (Int → Int) → Prop
  | 0, Z => Z = az
  | n + 1, Z => ∃ Y, evN az n Y ∧ evS Y Z
theorem evN_p (h : okA az) : ∀ (n : Nat) (Z : Int → Int), evN az n Z → okA Z ∧ sameB az Z ∧ Z 3 = az 3 ∧ Z 5 = az 5 ∧ waterZ Z ≤ waterZ az
  | 0, Z, e => by
    have e : Z = az := e
    rw [e]
    exact ⟨h, sameB.rf, rfl, rfl, Int.le_refl _⟩
  | n + 1, Z, ⟨Y, h1, h2⟩ => by
    obtain ⟨y2, y3, y4, y5, y6⟩ := evN_p h n Y h1
    obtain ⟨z2, z3, z4, z5, z6⟩ := evS_p y2 h2
    exact ⟨z2, y3.tr z3, z4.trans y4, z5.trans y5, by omega⟩
end SP14
