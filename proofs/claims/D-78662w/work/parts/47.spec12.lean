/-! TAKING: lakes come apart again -/
set_option maxRecDepth 100000
section SP12
variable {az az' : Int → Int}
noncomputable def lowZ (m : Int) : Int := @Classical.epsilon Int ⟨0⟩ (isLow m)
theorem isLow_x {m : Int} (hm : okS m) (h0 : m ≠ 0) : ∃ z, isLow m z := by
  obtain ⟨c, hc, hi⟩ := okS_ne hm h0
  have : ∀ n : Nat, ∀ c : Int, c < n → 0 ≤ c ∧ c < 36 → inS m c → ∃ z, isLow m z := by
    intro n
    induction n with
    | zero => intro c h1 h2 _; omega
    | succ n ih =>
      intro c h1 h2 h3
      by_cases e : ∃ j, (0 ≤ j ∧ j < c) ∧ inS m j
      · obtain ⟨j, hj, h4⟩ := e
        exact ih j (by omega) (by omega) h4
      · exact ⟨c, h2, h3, fun j hj h4 => e ⟨j, hj, h4⟩⟩
  exact this 36 c (by omega) hc hi
theorem lowZ_p {m : Int} (hm : okS m) (h0 : m ≠ 0) : isLow m (lowZ m) := Classical.epsilon_spec (p := isLow m) (isLow_x hm h0)
theorem isLow.e {m z : Int} (h : isLow m z) (hm : okS m) (h0 : m ≠ 0) : z = lowZ m := isLow_u h (lowZ_p hm h0)
/-- the lake k comes apart -/
def partsF (az : Int → Int) (k : Int) : Int → Int :=
  fup (fup (fup (fup (fup (fup (fup (fup (fup az (152 + k) 0) (224 + k) 0) (296 + k) 0) (368 + k) 0) (440 + k) 0) (224 + az (296 + k)) (capZ az (az (152 + az (296 + k))))) (224 + az (368 + k)) (capZ az (az (152 + az (368 + k))))) (440 + az (296 + k)) 1) (440 + az (368 + k)) 1
/-- the one of its two that has the lower cell -/
noncomputable def fstZ (az : Int → Int) (k : Int) : Int := if lowZ (az (152 + az (296 + k))) < lowZ (az (152 + az (368 + k))) then az (296 + k) else az (368 + k)
/-- what is left to be taken from its two -/
def rstZ (az : Int → Int) (k r : Int) : Int := r - (az (224 + k) - leastZ az k)
noncomputable def muchZ (az : Int → Int) (k r : Int) : Int := if rstZ az k r < az (224 + fstZ az k) then rstZ az k r else az (224 + fstZ az k)
noncomputable def takeO : Nat → (Int → Int) → Int → Int → Option (Int → Int)
  | 0, _, _, _ => none
  | n + 1, az, k, r =>
    if leastZ az k ≤ az (224 + k) - r then some (fup az (224 + k) (az (224 + k) - r)) else
      match takeO n (partsF az k) (fstZ az k) (muchZ az k r) with
      | none => none
      | some b => takeO n b (az (296 + k) + az (368 + k) - fstZ az k) (rstZ az k r - muchZ az k r)
def Takes (az : Int → Int) (k r : Int) (Z : Int → Int) : Prop := ∃ n, takeO n az k r = some Z
theorem takeO_s : ∀ (n : Nat) (az : Int → Int) (k r : Int) (Z : Int → Int), takeO n az k r = some Z → takeO (n + 1) az k r = some Z
  | 0, _, _, _, _, h => by unfold takeO at h; cases h
  | n + 1, az, k, r, Z, h => by
    unfold takeO at h
    unfold takeO
    split
    · rename_i q; rw [if_pos q] at h; exact h
    · rename_i q
      rw [if_neg q] at h
      cases e : takeO n (partsF az k) (fstZ az k) (muchZ az k r) with
      | none => rw [e] at h; cases h
      | some b =>
        rw [e] at h
        rw [takeO_s n _ _ _ _ e]
        exact takeO_s n _ _ _ _ h
theorem takeO_m {az : Int → Int} {k r : Int} {Z : Int → Int} {n : Nat} (h : takeO n az k r = some Z) : ∀ d : Nat, takeO (n + d) az k r = some Z
  | 0 => h
  | d + 1 => takeO_s _ _ _ _ _ (takeO_m h d)
theorem Takes.u {k r : Int} {Z Z' : Int → Int} (h : Takes az k r Z) (h' : Takes az k r Z') : Z = Z' := by
  obtain ⟨n, h⟩ := h
  obtain ⟨m, h'⟩ := h'
  have h1 := takeO_m h m
  have h2 := takeO_m h' n
  rw [Nat.add_comm] at h2
  rw [h1] at h2
  exact Option.some.inj h2
/-- a lake that can come apart, and its two -/
theorem okA.two (h : okA az) {k : Int} (q : isK az k) (hj : az (296 + k) ≠ az (368 + k)) : (0 ≤ az (296 + k) ∧ az (296 + k) < 72) ∧ (0 ≤ az (368 + k) ∧ az (368 + k) < 72) ∧ k ≠ az (296 + k) ∧ k ≠ az (368 + k) ∧ az (224 + az (296 + k)) = capZ az (az (152 + az (296 + k))) ∧ az (224 + az (368 + k)) = capZ az (az (152 + az (368 + k))) ∧ leastZ az k = az (224 + az (296 + k)) + az (224 + az (368 + k)) := by
  obtain ⟨r1, r2⟩ := h.r k q.1
  obtain ⟨q1, q2, q3, q4, q5, q6, q7⟩ := h.j k q.1 hj
  have hn := top_ch h q.2 q.1 hj
  have e1 := h.e _ r1 q4 q2
  have e2 := h.e _ r2 q5 q3
  exact ⟨r1, r2, Ne.symm hn.1, Ne.symm hn.2, e1, e2, by unfold leastZ; rw [if_pos hj, e1, e2]⟩
theorem pt_152 {k i : Int} (hk : 0 ≤ k ∧ k < 72) (hx : 0 ≤ az (296 + k) ∧ az (296 + k) < 72) (hy : 0 ≤ az (368 + k) ∧ az (368 + k) < 72) (hi : 0 ≤ i ∧ i < 72) : partsF az k (152 + i) = if i = k then 0 else az (152 + i) := by
  unfold partsF
  rw [fup_n _ _ (by omega), fup_n _ _ (by omega), fup_n _ _ (by omega), fup_n _ _ (by omega), fup_n _ _ (by omega), fup_n _ _ (by omega), fup_n _ _ (by omega), fup_n _ _ (by omega)]
  by_cases e : i = k
  · rw [if_pos e, e, fup_s]
  · rw [if_neg e, fup_n _ _ (by omega)]
theorem pt_296 {k i : Int} (hk : 0 ≤ k ∧ k < 72) (hx : 0 ≤ az (296 + k) ∧ az (296 + k) < 72) (hy : 0 ≤ az (368 + k) ∧ az (368 + k) < 72) (hi : 0 ≤ i ∧ i < 72) : partsF az k (296 + i) = if i = k then 0 else az (296 + i) := by
  unfold partsF
  rw [fup_n _ _ (by omega), fup_n _ _ (by omega), fup_n _ _ (by omega), fup_n _ _ (by omega), fup_n _ _ (by omega), fup_n _ _ (by omega)]
  by_cases e : i = k
  · rw [if_pos e, e, fup_s]
  · rw [if_neg e, fup_n _ _ (by omega), fup_n _ _ (by omega), fup_n _ _ (by omega)]
theorem pt_368 {k i : Int} (hk : 0 ≤ k ∧ k < 72) (hx : 0 ≤ az (296 + k) ∧ az (296 + k) < 72) (hy : 0 ≤ az (368 + k) ∧ az (368 + k) < 72) (hi : 0 ≤ i ∧ i < 72) : partsF az k (368 + i) = if i = k then 0 else az (368 + i) := by
  unfold partsF
  rw [fup_n _ _ (by omega), fup_n _ _ (by omega), fup_n _ _ (by omega), fup_n _ _ (by omega), fup_n _ _ (by omega)]
  by_cases e : i = k
  · rw [if_pos e, e, fup_s]
  · rw [if_neg e, fup_n _ _ (by omega), fup_n _ _ (by omega), fup_n _ _ (by omega), fup_n _ _ (by omega)]
theorem pt_440 {k i : Int} (hk : 0 ≤ k ∧ k < 72) (hx : 0 ≤ az (296 + k) ∧ az (296 + k) < 72) (hy : 0 ≤ az (368 + k) ∧ az (368 + k) < 72) (hi : 0 ≤ i ∧ i < 72) : partsF az k (440 + i) = if i = az (296 + k) ∨ i = az (368 + k) then 1 else if i = k then 0 else az (440 + i) := by
  unfold partsF
  by_cases e1 : i = az (368 + k)
  · rw [if_pos (Or.inr e1), e1, fup_s]
  · rw [fup_n _ _ (by omega)]
    by_cases e2 : i = az (296 + k)
    · rw [if_pos (Or.inl e2), e2, fup_s]
    · rw [fup_n _ _ (by omega), if_neg (show ¬ (i = az (296 + k) ∨ i = az (368 + k)) by omega), fup_n _ _ (by omega), fup_n _ _ (by omega)]
      by_cases e : i = k
      · rw [if_pos e, e, fup_s]
      · rw [if_neg e, fup_n _ _ (by omega), fup_n _ _ (by omega), fup_n _ _ (by omega), fup_n _ _ (by omega), fup_n _ _ (by omega)]
theorem pt_224 (h : okA az) {k i : Int} (q : isK az k) (hj : az (296 + k) ≠ az (368 + k)) (hi : 0 ≤ i ∧ i < 72) : partsF az k (224 + i) = if i = k then 0 else az (224 + i) := by
  obtain ⟨r1, r2, n1, n2, e1, e2, _⟩ := h.two q hj
  have hk := q.1
  unfold partsF
  rw [fup_n _ _ (by omega), fup_n _ _ (by omega)]
  by_cases a1 : i = az (368 + k)
  · rw [a1, fup_s, if_neg (by omega), e2]
  · rw [fup_n _ _ (by omega)]
    by_cases a2 : i = az (296 + k)
    · rw [a2, fup_s, if_neg (by omega), e1]
    · rw [fup_n _ _ (by omega), fup_n _ _ (by omega), fup_n _ _ (by omega), fup_n _ _ (by omega)]
      by_cases e : i = k
      · rw [if_pos e, e, fup_s]
      · rw [if_neg e, fup_n _ _ (by omega), fup_n _ _ (by omega)]
theorem pt_B {k : Int} (hk : 0 ≤ k ∧ k < 72) (hx : 0 ≤ az (296 + k) ∧ az (296 + k) < 72) (hy : 0 ≤ az (368 + k) ∧ az (368 + k) < 72) : sameB az (partsF az k) :=
  ((((((((sameB.rf.f (by omega)).f (by omega)).f (by omega)).f (by omega)).f (by omega)).f (by omega)).f (by omega)).f (by omega)).f (by omega)
theorem pt_3 {k j : Int} (hk : 0 ≤ k ∧ k < 72) (hx : 0 ≤ az (296 + k) ∧ az (296 + k) < 72) (hy : 0 ≤ az (368 + k) ∧ az (368 + k) < 72) (hj : j < 152) : partsF az k j = az j := by
  unfold partsF
  rw [fup_n _ _ (by omega), fup_n _ _ (by omega), fup_n _ _ (by omega), fup_n _ _ (by omega), fup_n _ _ (by omega), fup_n _ _ (by omega), fup_n _ _ (by omega), fup_n _ _ (by omega), fup_n _ _ (by omega)]
theorem pass_0 (hL : okL az) : (pass az 0).1 = -1 := by
  rcases pass_at hL 0 with h | ⟨a, s, _, _, h, _⟩
  · rw [h]
  · exact absurd h (inS_0 a)
theorem pt_ct (h : okA az) {k : Int} (q : isK az k) (hj : az (296 + k) ≠ az (368 + k)) : sm (usF (partsF az k)) 72 = sm (usF az) 72 - 1 ∧ sm (tpF (partsF az k)) 72 = sm (tpF az) 72 + 1 ∧ waterZ (partsF az k) = waterZ az - az (224 + k) + leastZ az k := by
  obtain ⟨r1, r2, n1, n2, e1, e2, e3⟩ := h.two q hj
  obtain ⟨q1, q2, q3, q4, q5, q6, q7⟩ := h.j k q.1 hj
  refine ⟨?_, ?_, ?_⟩
  · rw [sm_1 (f := usF az) 72 q.1 (fun j hj2 e => by unfold usF; rw [pt_152 q.1 r1 r2 hj2, if_neg e])]
    unfold usF
    rw [pt_152 q.1 r1 r2 q.1, if_pos rfl, if_pos (h.n k q.1 q.2), if_neg (fun e => e rfl)]
    omega
  · rw [sm_3 (f := tpF az) 72 q.1 r1 r2 n1 n2 hj (fun j hj2 a1 a2 a3 => by unfold tpF; rw [pt_440 q.1 r1 r2 hj2, if_neg (show ¬ (j = az (296 + k) ∨ j = az (368 + k)) by omega), if_neg a1])]
    unfold tpF
    rw [pt_440 q.1 r1 r2 q.1, if_neg (show ¬ (k = az (296 + k) ∨ k = az (368 + k)) by omega), if_pos rfl, pt_440 q.1 r1 r2 r1, if_pos (Or.inl rfl), pt_440 q.1 r1 r2 r2, if_pos (Or.inr rfl), q.2, q4, q5]
    simp
    omega
  · rw [water_sm, water_sm, sm_3 (f := wtF az) 72 q.1 r1 r2 n1 n2 hj (fun j hj2 a1 a2 a3 => by unfold wtF; rw [pt_440 q.1 r1 r2 hj2, if_neg (show ¬ (j = az (296 + k) ∨ j = az (368 + k)) by omega), if_neg a1, pt_224 h q hj hj2, if_neg a1])]
    unfold wtF
    rw [pt_440 q.1 r1 r2 q.1, if_neg (show ¬ (k = az (296 + k) ∨ k = az (368 + k)) by omega), if_pos rfl, pt_440 q.1 r1 r2 r1, if_pos (Or.inl rfl), pt_440 q.1 r1 r2 r2, if_pos (Or.inr rfl), pt_224 h q hj r1, pt_224 h q hj r2, if_neg (Ne.symm n1), if_neg (Ne.symm n2), q.2, q4, q5, e3]
    simp
    omega
theorem okA.part (h : okA az) {k : Int} (q : isK az k) (hj : az (296 + k) ≠ az (368 + k)) : okA (partsF az k) := by
  obtain ⟨hx, hy, n1, n2, e1, e2, e3⟩ := h.two q hj
  obtain ⟨q1, q2, q3, q4, q5, q6, q7⟩ := h.j k q.1 hj
  obtain ⟨c1, c2, c3⟩ := pt_ct h q hj
  have hk := q.1
  have hb : sameB az (partsF az k) := pt_B hk hx hy
  have hS := hb.L
  have eL := hS.cz h.L
  have e6 : partsF az k 6 = az 6 := hb 6 (by omega)
  have E1 := fun i hi => pt_152 (az := az) (k := k) (i := i) hk hx hy hi
  have E2 := fun i hi => pt_224 (az := az) (k := k) (i := i) h q hj hi
  have E3 := fun i hi => pt_296 (az := az) (k := k) (i := i) hk hx hy hi
  have E4 := fun i hi => pt_368 (az := az) (k := k) (i := i) hk hx hy hi
  have E5 := fun i hi => pt_440 (az := az) (k := k) (i := i) hk hx hy hi
  have sx : ∀ c, inS (az (152 + az (296 + k))) c → inS (az (152 + k)) c := fun c hc => by rw [q1]; exact (inS_or c).mpr (Or.inl hc)
  have sy : ∀ c, inS (az (152 + az (368 + k))) c → inS (az (152 + k)) c := fun c hc => by rw [q1]; exact (inS_or c).mpr (Or.inr hc)
  have tx : ∀ i, 0 ≤ i ∧ i < 72 → partsF az k (440 + i) = 1 → i ≠ k ∧ (i = az (296 + k) ∨ i = az (368 + k) ∨ az (440 + i) = 1) := fun i hi t => by
    rw [E5 i hi] at t
    by_cases a : i = az (296 + k) ∨ i = az (368 + k)
    · exact ⟨by omega, by omega⟩
    · rw [if_neg a] at t
      by_cases b : i = k
      · rw [if_pos b] at t; omega
      · rw [if_neg b] at t; exact ⟨b, by omega⟩
  refine ⟨hS.ok h.L, by rw [hb 512 (by omega)]; exact h.P, by rw [e6]; exact h.B, fun i hi => ?_, fun i hi => ?_, fun i hi => ?_, fun i hi => ?_, fun i hi => ?_, fun i hi => ?_, fun i j hi hj2 => ?_, fun i hi => ?_, fun i hi => ?_, fun i hi => ?_, fun i j hi hj2 => ?_, by rw [c1, c2, e6]; have := h.q; omega, fun i hi c hcc hc => ?_⟩
  · rw [E1 i hi]
    split
    · exact ⟨okS_0, fun c _ hc => absurd hc (inS_0 c)⟩
    · exact ⟨(h.S i hi).1, fun c h0 hc => (hS.c c).mpr ((h.S i hi).2 c h0 hc)⟩
  · rw [E5 i hi]
    have := h.t i hi
    split
    · omega
    · split <;> omega
  · intro t
    obtain ⟨a, b⟩ := tx i hi t
    rw [E1 i hi, if_neg a]
    rcases b with b | b | b
    · rw [b]; exact q2
    · rw [b]; exact q3
    · exact h.n i hi b
  · rw [E2 i hi]
    have := h.v i hi
    split <;> omega
  · rw [E1 i hi, E2 i hi, eL]
    by_cases e : i = k
    · rw [if_pos e, if_pos e]
      exact Or.inl ((capZ_n h.L).mpr (pass_0 h.L))
    · rw [if_neg e, if_neg e]; exact h.c i hi
  · rw [E5 i hi, E1 i hi, E2 i hi, eL]
    by_cases e : i = k
    · rw [if_pos e, if_pos e]; exact fun _ f => absurd rfl f
    · rw [if_neg e, if_neg e, if_neg e]
      by_cases a : i = az (296 + k) ∨ i = az (368 + k)
      · rw [if_pos a]; intro f; omega
      · rw [if_neg a]; exact h.e i hi
  · intro t1 t2 hne c hc1 hc2
    obtain ⟨a1, b1⟩ := tx i hi t1
    obtain ⟨a2, b2⟩ := tx j hj2 t2
    rw [E1 i hi, if_neg a1] at hc1
    rw [E1 j hj2, if_neg a2] at hc2
    rcases b1 with b1 | b1 | b1 <;> rcases b2 with b2 | b2 | b2
    · omega
    · rw [b1] at hc1; rw [b2] at hc2; exact q6 c hc1 hc2
    · rw [b1] at hc1; exact h.d k j hk hj2 q.2 b2 (Ne.symm a2) c (sx c hc1) hc2
    · rw [b1] at hc1; rw [b2] at hc2; exact q6 c hc2 hc1
    · omega
    · rw [b1] at hc1; exact h.d k j hk hj2 q.2 b2 (Ne.symm a2) c (sy c hc1) hc2
    · rw [b2] at hc2; exact h.d k i hk hi q.2 b1 (Ne.symm a1) c (sx c hc2) hc1
    · rw [b2] at hc2; exact h.d k i hk hi q.2 b1 (Ne.symm a1) c (sy c hc2) hc1
    · exact h.d i j hi hj2 b1 b2 hne c hc1 hc2
  · rw [E1 i hi, E2 i hi, E3 i hi, E4 i hi]
    by_cases e : i = k
    · rw [if_pos e, if_pos e, if_pos e, if_pos e]; exact fun _ => ⟨rfl, rfl, rfl⟩
    · rw [if_neg e, if_neg e, if_neg e, if_neg e]; exact h.f i hi
  · rw [E3 i hi, E4 i hi]
    have := h.r i hi
    split <;> omega
  · rw [E3 i hi, E4 i hi]
    by_cases e : i = k
    · rw [if_pos e, if_pos e]; exact fun f => absurd rfl f
    · rw [if_neg e, if_neg e]
      intro f
      obtain ⟨r1, r2⟩ := h.r i hi
      obtain ⟨p1, p2, p3, p4, p5, p6, p7⟩ := h.j i hi f
      have u := h.u k i hk hi hj f (Ne.symm e)
      have t := top_ch h q.2 hi f
      rw [E1 i hi, E2 i hi, if_neg e, if_neg e, E1 _ r1, E1 _ r2, E2 _ r1, E2 _ r2, if_neg t.1, if_neg t.2, if_neg t.1, if_neg t.2, E5 _ r1, E5 _ r2, if_neg (show ¬ (az (296 + i) = az (296 + k) ∨ az (296 + i) = az (368 + k)) by omega), if_neg (show ¬ (az (368 + i) = az (296 + k) ∨ az (368 + i) = az (368 + k)) by omega), if_neg t.1, if_neg t.2]
      exact ⟨p1, p2, p3, p4, p5, p6, p7⟩
  · rw [E3 i hi, E4 i hi, E3 j hj2, E4 j hj2]
    by_cases e : i = k
    · rw [if_pos e, if_pos e]; exact fun f => absurd rfl f
    · by_cases e2 : j = k
      · rw [if_pos e2, if_pos e2]; exact fun _ f => absurd rfl f
      · rw [if_neg e, if_neg e, if_neg e2, if_neg e2]; exact h.u i j hi hj2
  · rw [E1 i hi] at hc ⊢
    by_cases e : i = k
    · rw [if_pos e] at hc; exact absurd hc (inS_0 c)
    · rw [if_neg e] at hc ⊢
      have hcA := (hS.c c).mp hcc
      have hcl := hcA.lt h.L
      rw [hb (116 + c) (by omega)]
      refine ⟨(h.g i hi c hcA hc).1, fun c' h1 h2 => ?_⟩
      have h1 := (hS.c c').mp h1
      have := h1.lt h.L
      rw [hb (116 + c') (by omega)] at h2
      exact (h.g i hi c hcA hc).2 c' h1 h2
/-- less water in a lake -/
theorem okA.less (h : okA az) {k r : Int} (q : isK az k) (hr : 0 ≤ r ∧ r ≤ az (224 + k)) (hl : leastZ az k ≤ az (224 + k) - r) : okA (addF az k (-r)) := by
  have hk := q.1
  have ht := q.2
  have hb : sameB az (addF az k (-r)) := add_B hk
  have hS := hb.L
  have eL := hS.cz h.L
  have e6 : addF az k (-r) 6 = az 6 := hb 6 (by omega)
  have E : ∀ b i, (b = 152 ∨ b = 296 ∨ b = 368 ∨ b = 440) → 0 ≤ i ∧ i < 72 → addF az k (-r) (b + i) = az (b + i) := fun b i q hi => add_b b i (by omega) hk hi q
  have eu : sm (usF (addF az k (-r))) 72 = sm (usF az) 72 := sm_e 72 (fun i hi => by unfold usF; rw [E 152 i (by omega) hi])
  have et : sm (tpF (addF az k (-r))) 72 = sm (tpF az) 72 := sm_e 72 (fun i hi => by unfold tpF; rw [E 440 i (by omega) hi])
  refine ⟨hS.ok h.L, by rw [hb 512 (by omega)]; exact h.P, by rw [e6]; exact h.B, fun i hi => ?_, fun i hi => ?_, fun i hi => ?_, fun i hi => ?_, fun i hi => ?_, fun i hi => ?_, fun i j hi hj => ?_, fun i hi => ?_, fun i hi => ?_, fun i hi => ?_, fun i j hi hj => ?_, by rw [eu, et, e6]; exact h.q, fun i hi c hcc hc => ?_⟩
  · rw [E 152 i (by omega) hi]
    exact ⟨(h.S i hi).1, fun c h0 hc => (hS.c c).mpr ((h.S i hi).2 c h0 hc)⟩
  · rw [E 440 i (by omega) hi]; exact h.t i hi
  · rw [E 440 i (by omega) hi, E 152 i (by omega) hi]; exact h.n i hi
  · rw [add_v]
    have := h.v i hi
    by_cases e : i = k
    · rw [if_pos e, e]; omega
    · rw [if_neg e]; omega
  · rw [add_v, E 152 i (by omega) hi, eL]
    have := h.c i hi
    split <;> omega
  · rw [E 440 i (by omega) hi, add_v, E 152 i (by omega) hi, eL]
    intro q1 q2
    rw [if_neg (by rintro rfl; omega)]
    have := h.e i hi q1 q2
    omega
  · rw [E 440 i (by omega) hi, E 440 j (by omega) hj, E 152 i (by omega) hi, E 152 j (by omega) hj]; exact h.d i j hi hj
  · rw [E 152 i (by omega) hi, add_v, E 296 i (by omega) hi, E 368 i (by omega) hi]
    intro q0
    rw [if_neg (by rintro rfl; exact h.n i hi ht q0)]
    have := h.f i hi q0
    omega
  · rw [E 296 i (by omega) hi, E 368 i (by omega) hi]; exact h.r i hi
  · obtain ⟨r1, r2⟩ := h.r i hi
    rw [E 296 i (by omega) hi, E 368 i (by omega) hi]
    intro f
    have hn := top_ch h ht hi f
    rw [E 152 i (by omega) hi, E 152 _ (by omega) r1, E 152 _ (by omega) r2, E 440 _ (by omega) r1, E 440 _ (by omega) r2, add_v, add_v, add_v, if_neg hn.1, if_neg hn.2]
    obtain ⟨q1, q2, q3, q4, q5, q6, q7⟩ := h.j i hi f
    refine ⟨q1, q2, q3, q4, q5, q6, ?_⟩
    by_cases e : i = k
    · subst e
      rw [if_pos rfl]
      have := (h.two q f).2.2.2.2.2.2
      omega
    · rw [if_neg e]; omega
  · rw [E 296 i (by omega) hi, E 368 i (by omega) hi, E 296 j (by omega) hj, E 368 j (by omega) hj]; exact h.u i j hi hj
  · rw [E 152 i (by omega) hi] at hc ⊢
    have hcA := (hS.c c).mp hcc
    have hcl := hcA.lt h.L
    rw [hb (116 + c) (by omega)]
    refine ⟨(h.g i hi c hcA hc).1, fun c' h1 h2 => ?_⟩
    have h1 := (hS.c c').mp h1
    have := h1.lt h.L
    rw [hb (116 + c') (by omega)] at h2
    exact (h.g i hi c hcA hc).2 c' h1 h2
/-- the lakes but k are as they were -/
def oth (az az' : Int → Int) (k : Int) : Prop := ∀ j, 0 ≤ j ∧ j < 72 → az (440 + j) = 1 → j ≠ k → az' (440 + j) = 1 ∧ az' (152 + j) = az (152 + j) ∧ az' (224 + j) = az (224 + j) ∧ az' (296 + j) = az (296 + j) ∧ az' (368 + j) = az (368 + j)
theorem fst_two (h : okA az) {k : Int} (q : isK az k) (hj : az (296 + k) ≠ az (368 + k)) : (fstZ az k = az (296 + k) ∧ az (296 + k) + az (368 + k) - fstZ az k = az (368 + k)) ∨ (fstZ az k = az (368 + k) ∧ az (296 + k) + az (368 + k) - fstZ az k = az (296 + k)) := by
  unfold fstZ
  split
  · left; exact ⟨rfl, by omega⟩
  · right; exact ⟨rfl, by omega⟩
theorem us_k (h : okA az) {k : Int} (q : isK az k) : 1 ≤ sm (usF az) 72 := by
  have h2 : usF az k ≤ sm (usF az) 72 := sm_ge 72 (fun j _ => (us_r j).1) q.1
  have h3 : usF az k = 1 := if_pos (h.n k q.1 q.2)
  omega
/-- the two that a lake comes apart into are lakes; what is taken from them is there -/
theorem part_two (h : okA az) {k r : Int} (q : isK az k) (hr : 0 ≤ r ∧ r ≤ az (224 + k)) (hl : ¬ leastZ az k ≤ az (224 + k) - r) : az (296 + k) ≠ az (368 + k) ∧ isK (partsF az k) (fstZ az k) ∧ isK (partsF az k) (az (296 + k) + az (368 + k) - fstZ az k) ∧ az (296 + k) + az (368 + k) - fstZ az k ≠ fstZ az k ∧ (0 ≤ muchZ az k r ∧ muchZ az k r ≤ partsF az k (224 + fstZ az k)) ∧ (0 ≤ rstZ az k r - muchZ az k r ∧ rstZ az k r - muchZ az k r ≤ partsF az k (224 + (az (296 + k) + az (368 + k) - fstZ az k))) ∧ fstZ az k ≠ k ∧ partsF az k (224 + fstZ az k) = az (224 + fstZ az k) := by
  have hj : az (296 + k) ≠ az (368 + k) := by
    intro e
    have : leastZ az k = 0 := if_neg (fun f => f e)
    omega
  obtain ⟨hx, hy, n1, n2, e1, e2, e3⟩ := h.two q hj
  have vx := h.v _ hx
  have vy := h.v _ hy
  have T : ∀ i, 0 ≤ i ∧ i < 72 → (i = az (296 + k) ∨ i = az (368 + k)) → isK (partsF az k) i := fun i hi e => ⟨hi, by rw [pt_440 q.1 hx hy hi, if_pos e]⟩
  have V : ∀ i, 0 ≤ i ∧ i < 72 → i ≠ k → partsF az k (224 + i) = az (224 + i) := fun i hi e => by rw [pt_224 h q hj hi, if_neg e]
  have hm : 0 ≤ rstZ az k r ∧ rstZ az k r ≤ az (224 + az (296 + k)) + az (224 + az (368 + k)) := by unfold rstZ; omega
  refine ⟨hj, ?_⟩
  unfold muchZ
  rcases fst_two h q hj with ⟨f1, f2⟩ | ⟨f1, f2⟩
  · rw [f2, f1, V _ hx (Ne.symm n1), V _ hy (Ne.symm n2)]
    refine ⟨T _ hx (Or.inl rfl), T _ hy (Or.inr rfl), Ne.symm hj, ?_, ?_, Ne.symm n1, rfl⟩
    · split <;> omega
    · split <;> omega
  · rw [f2, f1, V _ hx (Ne.symm n1), V _ hy (Ne.symm n2)]
    refine ⟨T _ hy (Or.inr rfl), T _ hx (Or.inl rfl), hj, ?_, ?_, Ne.symm n2, rfl⟩
    · split <;> omega
    · split <;> omega
theorem take_ends : ∀ (n : Nat) (az : Int → Int) (k r : Int), okA az → isK az k → 0 ≤ r ∧ r ≤ az (224 + k) → sm (usF az) 72 ≤ n → ∃ Z, takeO (n + 1) az k r = some Z ∧ okA Z ∧ sameB az Z ∧ (∀ j, j < 152 → Z j = az j) ∧ waterZ Z = waterZ az - r ∧ sm (usF Z) 72 ≤ sm (usF az) 72 ∧ oth az Z k
  | 0, az, k, r, h, q, _, hn => by have := us_k h q; omega
  | n + 1, az, k, r, h, q, hr, hn => by
    by_cases hl : leastZ az k ≤ az (224 + k) - r
    · refine ⟨addF az k (-r), ?_, h.less q hr hl, add_B q.1, fun j hj => add_n (by have := q.1; omega), by rw [add_w q.1 q.2]; omega, ?_, fun j hj t e => ?_⟩
      · unfold takeO addF
        rw [if_pos hl]
        rfl
      · rw [sm_e (h := usF az) 72 (fun i hi => by unfold usF; rw [add_b 152 i (by omega) q.1 hi (by omega)])]
        exact Int.le_refl _
      · rw [add_b 440 j (by omega) q.1 hj (by omega), add_b 152 j (by omega) q.1 hj (by omega), add_b 296 j (by omega) q.1 hj (by omega), add_b 368 j (by omega) q.1 hj (by omega), add_v, if_neg e]
        exact ⟨t, rfl, by omega, rfl, rfl⟩
    · obtain ⟨hj, kf, ko, hne, m1, m2, nf, vf⟩ := part_two h q hr hl
      obtain ⟨hx, hy, n1, n2, e1, e2, e3⟩ := h.two q hj
      obtain ⟨c1, c2, c3⟩ := pt_ct h q hj
      have hP := h.part q hj
      have hB : sameB az (partsF az k) := pt_B q.1 hx hy
      have h3 : ∀ j, j < 152 → partsF az k j = az j := fun j hj2 => pt_3 q.1 hx hy hj2
      have oP : ∀ j, 0 ≤ j ∧ j < 72 → az (440 + j) = 1 → j ≠ k → partsF az k (440 + j) = 1 ∧ partsF az k (152 + j) = az (152 + j) ∧ partsF az k (224 + j) = az (224 + j) ∧ partsF az k (296 + j) = az (296 + j) ∧ partsF az k (368 + j) = az (368 + j) := fun j hj2 t e => by
        rw [pt_440 q.1 hx hy hj2, pt_152 q.1 hx hy hj2, pt_224 h q hj hj2, pt_296 q.1 hx hy hj2, pt_368 q.1 hx hy hj2]
        refine ⟨?_, if_neg e, if_neg e, if_neg e, if_neg e⟩
        split
        · rfl
        · exact t
      obtain ⟨b, b1, b2, b3, b4, b5, b6, b7⟩ := take_ends n (partsF az k) (fstZ az k) (muchZ az k r) hP kf m1 (by omega)
      have bo := b7 _ ko.1 ko.2 hne
      obtain ⟨Z, z1, z2, z3, z4, z5, z6, z7⟩ := take_ends n b (az (296 + k) + az (368 + k) - fstZ az k) (rstZ az k r - muchZ az k r) b2 ⟨ko.1, bo.1⟩ (by rw [bo.2.2.1]; exact m2) (by omega)
      refine ⟨Z, ?_, z2, (hB.tr b3).tr z3, fun j hj2 => (z4 j hj2).trans ((b4 j hj2).trans (h3 j hj2)), ?_, by omega, fun j hj2 t e => ?_⟩
      · unfold takeO
        rw [if_neg hl, b1]
        exact z1
      · rw [z5, b5, c3]; unfold rstZ; omega
      · have t0 := oP j hj2 t e
        have nx : j ≠ az (296 + k) ∧ j ≠ az (368 + k) := by
          have := h.j k q.1 hj
          exact ⟨fun e => by rw [← e] at this; omega, fun e => by rw [← e] at this; omega⟩
        have hf := fst_two h q hj
        have t1 := b7 j hj2 t0.1 (by omega)
        have t2 := z7 j hj2 t1.1 (by omega)
        exact ⟨t2.1, t2.2.1.trans (t1.2.1.trans t0.2.1), t2.2.2.1.trans (t1.2.2.1.trans t0.2.2.1), t2.2.2.2.1.trans (t1.2.2.2.1.trans t0.2.2.2.1), t2.2.2.2.2.trans (t1.2.2.2.2.trans t0.2.2.2.2)⟩
theorem take_ok (h : okA az) {k r : Int} (q : isK az k) (hr : 0 ≤ r ∧ r ≤ az (224 + k)) : ∃ Z, Takes az k r Z ∧ okA Z ∧ sameB az Z ∧ (∀ j, j < 152 → Z j = az j) ∧ waterZ Z = waterZ az - r ∧ oth az Z k := by
  obtain ⟨Z, z1, z2, z3, z4, z5, z6, z7⟩ := take_ends (sm (usF az) 72).toNat az k r h q hr (by omega)
  exact ⟨Z, ⟨_, z1⟩, z2, z3, z4, z5, z7⟩
end SP12
