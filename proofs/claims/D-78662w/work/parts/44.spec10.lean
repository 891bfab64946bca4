/-! POURING: it ends, and keeps what holds -/
set_option maxRecDepth 100000
section SP10
variable {az az' : Int → Int}
theorem add_n {k r j : Int} (h : j ≠ 224 + k) : addF az k r j = az j := fup_n _ _ h
theorem add_b {k r : Int} (b i : Int) (hb : b ≠ 224) (hk : 0 ≤ k ∧ k < 72) (hi : 0 ≤ i ∧ i < 72) (h5 : b = 152 ∨ b = 296 ∨ b = 368 ∨ b = 440) : addF az k r (b + i) = az (b + i) := add_n (by omega)
theorem add_v {k r i : Int} : addF az k r (224 + i) = az (224 + i) + (if i = k then r else 0) := by
  unfold addF
  by_cases e : i = k
  · rw [e, fup_s, if_pos rfl]
  · rw [fup_n _ _ (by omega), if_neg e]; omega
theorem add_B {k r : Int} (hk : 0 ≤ k ∧ k < 72) : sameB az (addF az k r) := sameB.rf.f (by omega)
theorem top_ch (h : okA az) {k i : Int} (hk : az (440 + k) = 1) (hi : 0 ≤ i ∧ i < 72) (hj : az (296 + i) ≠ az (368 + i)) : az (296 + i) ≠ k ∧ az (368 + i) ≠ k := by
  have h1 := h.j i hi hj
  exact ⟨fun e => by rw [e, hk] at h1; omega, fun e => by rw [e, hk] at h1; omega⟩
theorem okA.add (h : okA az) {k r : Int} (hk : 0 ≤ k ∧ k < 72) (ht : az (440 + k) = 1) (hr : 0 ≤ r) (hc : capZ az (az (152 + k)) = -1 ∨ az (224 + k) + r ≤ capZ az (az (152 + k))) : okA (addF az k r) := by
  have hb : sameB az (addF az k r) := add_B hk
  have hS := hb.L
  have eL := hS.cz h.L
  have e6 : addF az k r 6 = az 6 := hb 6 (by omega)
  have E : ∀ b i, (b = 152 ∨ b = 296 ∨ b = 368 ∨ b = 440) → 0 ≤ i ∧ i < 72 → addF az k r (b + i) = az (b + i) := fun b i q hi => add_b b i (by omega) hk hi q
  have eu : sm (usF (addF az k r)) 72 = sm (usF az) 72 := sm_e 72 (fun i hi => by unfold usF; rw [E 152 i (by omega) hi])
  have et : sm (tpF (addF az k r)) 72 = sm (tpF az) 72 := sm_e 72 (fun i hi => by unfold tpF; rw [E 440 i (by omega) hi])
  refine ⟨hS.ok h.L, by rw [hb 512 (by omega)]; exact h.P, by rw [e6]; exact h.B, fun i hi => ?_, fun i hi => ?_, fun i hi => ?_, fun i hi => ?_, fun i hi => ?_, fun i hi => ?_, fun i j hi hj => ?_, fun i hi => ?_, fun i hi => ?_, fun i hi => ?_, fun i j hi hj => ?_, by rw [eu, et, e6]; exact h.q, fun i hi c hcc hc => ?_⟩
  · rw [E 152 i (by omega) hi]
    exact ⟨(h.S i hi).1, fun c h0 hc => (hS.c c).mpr ((h.S i hi).2 c h0 hc)⟩
  · rw [E 440 i (by omega) hi]; exact h.t i hi
  · rw [E 440 i (by omega) hi, E 152 i (by omega) hi]; exact h.n i hi
  · rw [add_v]; have := h.v i hi; split <;> omega
  · rw [add_v, E 152 i (by omega) hi, eL]
    by_cases e : i = k
    · rw [if_pos e, e]; exact hc
    · rw [if_neg e]; have := h.c i hi; omega
  · rw [E 440 i (by omega) hi, add_v, E 152 i (by omega) hi, eL]
    intro q1 q2
    rw [if_neg (by rintro rfl; omega)]
    have := h.e i hi q1 q2
    omega
  · rw [E 440 i (by omega) hi, E 440 j (by omega) hj, E 152 i (by omega) hi, E 152 j (by omega) hj]; exact h.d i j hi hj
  · rw [E 152 i (by omega) hi, add_v, E 296 i (by omega) hi, E 368 i (by omega) hi]
    intro q
    rw [if_neg (by rintro rfl; exact h.n i hi ht q)]
    have := h.f i hi q
    omega
  · rw [E 296 i (by omega) hi, E 368 i (by omega) hi]; exact h.r i hi
  · obtain ⟨r1, r2⟩ := h.r i hi
    rw [E 296 i (by omega) hi, E 368 i (by omega) hi]
    intro q
    have hn := top_ch h ht hi q
    rw [E 152 i (by omega) hi, E 152 _ (by omega) r1, E 152 _ (by omega) r2, E 440 _ (by omega) r1, E 440 _ (by omega) r2, add_v, add_v, add_v, if_neg hn.1, if_neg hn.2]
    obtain ⟨q1, q2, q3, q4, q5, q6, q7⟩ := h.j i hi q
    exact ⟨q1, q2, q3, q4, q5, q6, by split <;> omega⟩
  · rw [E 296 i (by omega) hi, E 368 i (by omega) hi, E 296 j (by omega) hj, E 368 j (by omega) hj]; exact h.u i j hi hj
  · rw [E 152 i (by omega) hi] at hc ⊢
    have hcA := (hS.c c).mp hcc
    have hcl := hcA.lt h.L
    rw [hb (116 + c) (by omega)]
    refine ⟨(h.g i hi c hcA hc).1, fun c' h1 h2 => ?_⟩
    have h1 := (hS.c c').mp h1
    have := h1.lt h.L
    rw [hb (116 + c') (by omega)] at h2
    exact (h.g i hi c hcA hc).2 c' h1 h2
theorem add_w {k r : Int} (hk : 0 ≤ k ∧ k < 72) (ht : az (440 + k) = 1) : waterZ (addF az k r) = waterZ az + r := by
  rw [water_sm, water_sm, sm_1 (f := wtF az) 72 hk (fun j hj q => by
    unfold wtF; rw [add_v, if_neg q, add_b 440 j (by omega) hk hj (by omega), Int.add_zero])]
  unfold wtF
  rw [add_v, if_pos rfl, add_b 440 k (by omega) hk hk (by omega), if_pos ht, if_pos ht]
  omega
/-! two lakes joined -/
theorem jn_152 {x y i : Int} (hf : 0 ≤ freeK az ∧ freeK az < 72) (hx : 0 ≤ x ∧ x < 72) (hy : 0 ≤ y ∧ y < 72) (hi : 0 ≤ i ∧ i < 72) : joinF az x y (152 + i) = if i = freeK az then orZ (az (152 + x)) (az (152 + y)) else az (152 + i) := by
  unfold joinF
  rw [fup_n _ _ (by omega), fup_n _ _ (by omega), fup_n _ _ (by omega), fup_n _ _ (by omega), fup_n _ _ (by omega), fup_n _ _ (by omega)]
  by_cases e : i = freeK az
  · rw [if_pos e, e, fup_s]
  · rw [if_neg e, fup_n _ _ (by omega)]
theorem jn_224 {x y i : Int} (hf : 0 ≤ freeK az ∧ freeK az < 72) (hx : 0 ≤ x ∧ x < 72) (hy : 0 ≤ y ∧ y < 72) (hi : 0 ≤ i ∧ i < 72) : joinF az x y (224 + i) = if i = freeK az then az (224 + x) + az (224 + y) else az (224 + i) := by
  unfold joinF
  rw [fup_n _ _ (by omega), fup_n _ _ (by omega), fup_n _ _ (by omega), fup_n _ _ (by omega), fup_n _ _ (by omega)]
  by_cases e : i = freeK az
  · rw [if_pos e, e, fup_s]
  · rw [if_neg e, fup_n _ _ (by omega), fup_n _ _ (by omega)]
theorem jn_296 {x y i : Int} (hf : 0 ≤ freeK az ∧ freeK az < 72) (hx : 0 ≤ x ∧ x < 72) (hy : 0 ≤ y ∧ y < 72) (hi : 0 ≤ i ∧ i < 72) : joinF az x y (296 + i) = if i = freeK az then x else az (296 + i) := by
  unfold joinF
  rw [fup_n _ _ (by omega), fup_n _ _ (by omega), fup_n _ _ (by omega), fup_n _ _ (by omega)]
  by_cases e : i = freeK az
  · rw [if_pos e, e, fup_s]
  · rw [if_neg e, fup_n _ _ (by omega), fup_n _ _ (by omega), fup_n _ _ (by omega)]
theorem jn_368 {x y i : Int} (hf : 0 ≤ freeK az ∧ freeK az < 72) (hx : 0 ≤ x ∧ x < 72) (hy : 0 ≤ y ∧ y < 72) (hi : 0 ≤ i ∧ i < 72) : joinF az x y (368 + i) = if i = freeK az then y else az (368 + i) := by
  unfold joinF
  rw [fup_n _ _ (by omega), fup_n _ _ (by omega), fup_n _ _ (by omega)]
  by_cases e : i = freeK az
  · rw [if_pos e, e, fup_s]
  · rw [if_neg e, fup_n _ _ (by omega), fup_n _ _ (by omega), fup_n _ _ (by omega), fup_n _ _ (by omega)]
theorem jn_440 {x y i : Int} (hf : 0 ≤ freeK az ∧ freeK az < 72) (hi : 0 ≤ i ∧ i < 72) : joinF az x y (440 + i) = if i = y then 0 else if i = x then 0 else if i = freeK az then 1 else az (440 + i) := by
  unfold joinF
  by_cases e1 : i = y
  · rw [if_pos e1, e1, fup_s]
  · rw [if_neg e1, fup_n _ _ (by omega)]
    by_cases e2 : i = x
    · rw [if_pos e2, e2, fup_s]
    · rw [if_neg e2, fup_n _ _ (by omega)]
      by_cases e3 : i = freeK az
      · rw [if_pos e3, e3, fup_s]
      · rw [if_neg e3, fup_n _ _ (by omega), fup_n _ _ (by omega), fup_n _ _ (by omega), fup_n _ _ (by omega), fup_n _ _ (by omega)]
theorem jn_B {x y : Int} (hf : 0 ≤ freeK az ∧ freeK az < 72) (hx : 0 ≤ x ∧ x < 72) (hy : 0 ≤ y ∧ y < 72) : sameB az (joinF az x y) :=
  ((((((sameB.rf.f (by omega)).f (by omega)).f (by omega)).f (by omega)).f (by omega)).f (by omega)).f (by omega)
theorem jn_3 {x y j : Int} (hf : 0 ≤ freeK az ∧ freeK az < 72) (hx : 0 ≤ x ∧ x < 72) (hy : 0 ≤ y ∧ y < 72) (hj : j < 152) : joinF az x y j = az j := by
  unfold joinF
  rw [fup_n _ _ (by omega), fup_n _ _ (by omega), fup_n _ _ (by omega), fup_n _ _ (by omega), fup_n _ _ (by omega), fup_n _ _ (by omega), fup_n _ _ (by omega)]
theorem or_ne {a b : Int} (ha : okS a) (h : a ≠ 0) : orZ a b ≠ 0 := by
  obtain ⟨c, _, h1⟩ := okS_ne ha h
  intro e
  have : inS (orZ a b) c := (inS_or c).mpr (Or.inl h1)
  rw [e] at this
  exact inS_0 c this
/-- what two lakes must be to be joined -/
def jnOk (az : Int → Int) (x y : Int) : Prop := (0 ≤ x ∧ x < 72) ∧ (0 ≤ y ∧ y < 72) ∧ x ≠ y ∧ az (440 + x) = 1 ∧ az (440 + y) = 1 ∧ az (224 + x) = capZ az (az (152 + x)) ∧ az (224 + y) = capZ az (az (152 + y)) ∧ (pass az (az (152 + x))).1 = (pass az (az (152 + y))).1
theorem jnOk.fr (h : okA az) {x y : Int} (q : jnOk az x y) : (0 ≤ freeK az ∧ freeK az < 72) ∧ az (152 + freeK az) = 0 ∧ freeK az ≠ x ∧ freeK az ≠ y ∧ az (440 + freeK az) = 0 := by
  obtain ⟨hx, hy, hn, tx, ty, _⟩ := q
  obtain ⟨h1, h2, _⟩ := freeK_p (h.free hx tx)
  refine ⟨h1, h2, fun e => h.n x hx tx (e ▸ h2), fun e => h.n y hy ty (e ▸ h2), ?_⟩
  rcases h.t _ h1 with e | e
  · exact e
  · exact absurd h2 (h.n _ h1 e)
theorem okA.join (h : okA az) {x y : Int} (q : jnOk az x y) : okA (joinF az x y) := by
  obtain ⟨hf, f0, fx, fy, ft⟩ := q.fr h
  obtain ⟨hx, hy, hn, tx, ty, vx, vy, hp⟩ := q
  have hb : sameB az (joinF az x y) := jn_B hf hx hy
  have hS := hb.L
  have eL := hS.cz h.L
  have nx := h.n x hx tx
  have ny := h.n y hy ty
  have e6 : joinF az x y 6 = az 6 := hb 6 (by omega)
  have hd := h.d x y hx hy tx ty hn
  have E1 := fun i hi => jn_152 (az := az) (x := x) (y := y) (i := i) hf hx hy hi
  have E2 := fun i hi => jn_224 (az := az) (x := x) (y := y) (i := i) hf hx hy hi
  have E3 := fun i hi => jn_296 (az := az) (x := x) (y := y) (i := i) hf hx hy hi
  have E4 := fun i hi => jn_368 (az := az) (x := x) (y := y) (i := i) hf hx hy hi
  have E5 := fun i hi => jn_440 (az := az) (x := x) (y := y) (i := i) hf hi
  have hor : orZ (az (152 + x)) (az (152 + y)) ≠ 0 := or_ne (h.S x hx).1 nx
  have eu : sm (usF (joinF az x y)) 72 = sm (usF az) 72 + 1 := by
    rw [sm_1 (f := usF az) 72 hf (fun j hj e => by unfold usF; rw [E1 j hj, if_neg e])]
    unfold usF
    rw [E1 _ hf, if_pos rfl, if_pos hor, if_neg (fun e => e f0)]
    omega
  have et : sm (tpF (joinF az x y)) 72 = sm (tpF az) 72 - 1 := by
    rw [sm_3 (f := tpF az) 72 hf hx hy fx fy hn (fun j hj e1 e2 e3 => by unfold tpF; rw [E5 j hj, if_neg e3, if_neg e2, if_neg e1])]
    unfold tpF
    rw [E5 _ hf, if_neg fy, if_neg fx, if_pos rfl, E5 x hx, if_neg hn, if_pos rfl, E5 y hy, if_pos rfl, ft, tx, ty]
    simp
    omega
  refine ⟨hS.ok h.L, by rw [hb 512 (by omega)]; exact h.P, by rw [e6]; exact h.B, fun i hi => ?_, fun i hi => ?_, fun i hi => ?_, fun i hi => ?_, fun i hi => ?_, fun i hi => ?_, fun i j hi hj => ?_, fun i hi => ?_, fun i hi => ?_, fun i hi => ?_, fun i j hi hj => ?_, by rw [eu, et, e6]; have := h.q; omega, fun i hi c hcc hc => ?_⟩
  · rw [E1 i hi]
    split
    · exact ⟨okS_or (h.S x hx).1 (h.S y hy).1, fun c h0 hc => (hS.c c).mpr (((inS_or c).mp hc).elim ((h.S x hx).2 c h0) ((h.S y hy).2 c h0))⟩
    · exact ⟨(h.S i hi).1, fun c h0 hc => (hS.c c).mpr ((h.S i hi).2 c h0 hc)⟩
  · rw [E5 i hi]
    have := h.t i hi
    split
    · omega
    · split
      · omega
      · split <;> omega
  · rw [E5 i hi, E1 i hi]
    by_cases e1 : i = y
    · rw [if_pos e1]; omega
    · rw [if_neg e1]
      by_cases e2 : i = x
      · rw [if_pos e2]; omega
      · rw [if_neg e2]
        by_cases e3 : i = freeK az
        · rw [if_pos e3, if_pos e3]; exact fun _ => hor
        · rw [if_neg e3, if_neg e3]; exact h.n i hi
  · rw [E2 i hi]
    have := h.v i hi; have := h.v x hx; have := h.v y hy
    split <;> omega
  · rw [E1 i hi, E2 i hi, eL]
    by_cases e : i = freeK az
    · rw [if_pos e, if_pos e, vx, vy]
      exact capZ_or h.L hp (fun e2 => by have := (capZ_n h.L).mpr e2; have := h.v x hx; omega) hd
    · rw [if_neg e, if_neg e]; exact h.c i hi
  · rw [E5 i hi, E1 i hi, E2 i hi, eL]
    by_cases e3 : i = freeK az
    · rw [if_neg (by omega), if_neg (by omega), if_pos e3]; omega
    · rw [if_neg e3, if_neg e3, if_neg e3]
      by_cases e1 : i = y
      · rw [e1]; exact fun _ _ => vy
      · by_cases e2 : i = x
        · rw [e2]; exact fun _ _ => vx
        · rw [if_neg e1, if_neg e2]; exact h.e i hi
  · rw [E5 i hi, E5 j hj, E1 i hi, E1 j hj]
    intro q1 q2 q3
    by_cases a1 : i = y
    · rw [if_pos a1] at q1; omega
    by_cases a2 : i = x
    · rw [if_neg a1, if_pos a2] at q1; omega
    by_cases b1 : j = y
    · rw [if_pos b1] at q2; omega
    by_cases b2 : j = x
    · rw [if_neg b1, if_pos b2] at q2; omega
    rw [if_neg a1, if_neg a2] at q1
    rw [if_neg b1, if_neg b2] at q2
    by_cases a3 : i = freeK az
    · have b3 : j ≠ freeK az := by omega
      rw [if_neg b3] at q2
      rw [if_pos a3, if_neg b3]
      intro c hc hc2
      rcases (inS_or c).mp hc with hc | hc
      · exact h.d x j hx hj tx q2 (Ne.symm b2) c hc hc2
      · exact h.d y j hy hj ty q2 (Ne.symm b1) c hc hc2
    · rw [if_neg a3] at q1
      rw [if_neg a3]
      by_cases b3 : j = freeK az
      · rw [if_pos b3]
        intro c hc hc2
        rcases (inS_or c).mp hc2 with hc2 | hc2
        · exact h.d i x hi hx q1 tx a2 c hc hc2
        · exact h.d i y hi hy q1 ty a1 c hc hc2
      · rw [if_neg b3] at q2 ⊢
        exact h.d i j hi hj q1 q2 q3
  · rw [E1 i hi, E2 i hi, E3 i hi, E4 i hi]
    by_cases e : i = freeK az
    · rw [if_pos e]; exact fun q => absurd q hor
    · rw [if_neg e, if_neg e, if_neg e, if_neg e]; exact h.f i hi
  · rw [E3 i hi, E4 i hi]
    have := h.r i hi
    split <;> omega
  · rw [E3 i hi, E4 i hi]
    by_cases e : i = freeK az
    · rw [if_pos e, if_pos e, E1 i hi, E2 i hi, if_pos e, if_pos e, E1 x hx, E1 y hy, E2 x hx, E2 y hy, if_neg (Ne.symm fx), if_neg (Ne.symm fy), if_neg (Ne.symm fx), if_neg (Ne.symm fy), E5 x hx, E5 y hy, if_neg hn, if_pos rfl, if_pos rfl]
      exact fun _ => ⟨rfl, nx, ny, rfl, rfl, hd, Int.le_refl _⟩
    · rw [if_neg e, if_neg e]
      intro q
      obtain ⟨r1, r2⟩ := h.r i hi
      obtain ⟨q1, q2, q3, q4, q5, q6, q7⟩ := h.j i hi q
      have c1 : az (296 + i) ≠ freeK az := fun e2 => by rw [e2] at q2; exact q2 f0
      have c2 : az (368 + i) ≠ freeK az := fun e2 => by rw [e2] at q3; exact q3 f0
      have c3 := top_ch h tx hi q
      have c4 := top_ch h ty hi q
      rw [E1 i hi, E2 i hi, if_neg e, if_neg e, E1 _ r1, E1 _ r2, E2 _ r1, E2 _ r2, if_neg c1, if_neg c2, if_neg c1, if_neg c2, E5 _ r1, E5 _ r2, if_neg c4.1, if_neg c3.1, if_neg c1, if_neg c4.2, if_neg c3.2, if_neg c2]
      exact ⟨q1, q2, q3, q4, q5, q6, q7⟩
  · rw [E3 i hi, E4 i hi, E3 j hj, E4 j hj]
    by_cases e : i = freeK az
    · rw [if_pos e, if_pos e]
      by_cases e2 : j = freeK az
      · omega
      · rw [if_neg e2, if_neg e2]
        intro _ q _
        have c3 := top_ch h tx hj q
        have c4 := top_ch h ty hj q
        exact ⟨Ne.symm c3.1, Ne.symm c3.2, Ne.symm c4.1, Ne.symm c4.2⟩
    · rw [if_neg e, if_neg e]
      by_cases e2 : j = freeK az
      · rw [if_pos e2, if_pos e2]
        intro q _ _
        have c3 := top_ch h tx hi q
        have c4 := top_ch h ty hi q
        exact ⟨c3.1, c4.1, c3.2, c4.2⟩
      · rw [if_neg e2, if_neg e2]; exact h.u i j hi hj
  · have G : ∀ i, 0 ≤ i ∧ i < 72 → ∀ c, isC (joinF az x y) c → inS (az (152 + i)) c → joinF az x y (116 + c) ≠ -1 ∧ ∀ c', isC (joinF az x y) c' → joinF az x y (116 + c') = joinF az x y (116 + c) → inS (az (152 + i)) c' := by
      intro i hi c hcc hc
      have hcA := (hS.c c).mp hcc
      have hcl := hcA.lt h.L
      rw [hb (116 + c) (by omega)]
      refine ⟨(h.g i hi c hcA hc).1, fun c' h1 h2 => ?_⟩
      have h1 := (hS.c c').mp h1
      have := h1.lt h.L
      rw [hb (116 + c') (by omega)] at h2
      exact (h.g i hi c hcA hc).2 c' h1 h2
    rw [E1 i hi] at hc ⊢
    by_cases e : i = freeK az
    · rw [if_pos e] at hc ⊢
      rcases (inS_or c).mp hc with q | q
      · exact ⟨(G x hx c hcc q).1, fun c' h1 h2 => (inS_or c').mpr (Or.inl ((G x hx c hcc q).2 c' h1 h2))⟩
      · exact ⟨(G y hy c hcc q).1, fun c' h1 h2 => (inS_or c').mpr (Or.inr ((G y hy c hcc q).2 c' h1 h2))⟩
    · rw [if_neg e] at hc ⊢
      exact G i hi c hcc hc
theorem jn_w (h : okA az) {x y : Int} (q : jnOk az x y) : waterZ (joinF az x y) = waterZ az := by
  obtain ⟨hf, f0, fx, fy, ft⟩ := q.fr h
  obtain ⟨hx, hy, hn, tx, ty, vx, vy, hp⟩ := q
  rw [water_sm, water_sm, sm_3 (f := wtF az) 72 hf hx hy fx fy hn (fun j hj e1 e2 e3 => by unfold wtF; rw [jn_440 hf hj, if_neg e3, if_neg e2, if_neg e1, jn_224 hf hx hy hj, if_neg e1])]
  unfold wtF
  rw [jn_440 hf hf, if_neg fy, if_neg fx, if_pos rfl, if_pos rfl, jn_224 hf hx hy hf, if_pos rfl, jn_440 hf hx, if_neg hn, if_pos rfl, jn_440 hf hy, if_pos rfl, ft, tx, ty]
  simp
  omega
theorem jn_T (h : okA az) {x y : Int} (q : jnOk az x y) : sm (tpF (joinF az x y)) 72 = sm (tpF az) 72 - 1 := by
  obtain ⟨hf, f0, fx, fy, ft⟩ := q.fr h
  obtain ⟨hx, hy, hn, tx, ty, vx, vy, hp⟩ := q
  rw [sm_3 (f := tpF az) 72 hf hx hy fx fy hn (fun j hj e1 e2 e3 => by unfold tpF; rw [jn_440 hf hj, if_neg e3, if_neg e2, if_neg e1])]
  unfold tpF
  rw [jn_440 hf hf, if_neg fy, if_neg fx, if_pos rfl, jn_440 hf hx, if_neg hn, if_pos rfl, jn_440 hf hy, if_pos rfl, ft, tx, ty]
  simp
  omega
end SP10
