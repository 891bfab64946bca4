/-! RANGES OF VALUES -/
set_option maxRecDepth 100000
section SP15
variable {az : Int → Int}
theorem bI_r (p : Prop) : 0 ≤ bI p ∧ bI p ≤ 1 := by
  unfold bI
  split <;> omega
theorem cntm_r (hL : okL az) (p : Int → Prop) : 0 ≤ cntP p (mny az).toNat ∧ cntP p (mny az).toNat ≤ 36 := by
  have := cntP_r p (mny az).toNat
  have := hL.m
  omega
theorem countZ_r (hA : okA az) (w : Int) : 0 ≤ countZ az w ∧ countZ az w ≤ 72 := by
  have h1 := hA.L.w
  have h2 := hA.L.h
  have h3 := hA.B
  have h4 := nL_r hA.L
  have h5 := cntm_r hA.L (wetP az)
  have h6 := cntm_r hA.L (fun c => az (116 + c) = -1)
  have h7 := sm_r (f := fullF az) (b := 1) 72 (fun k _ => by unfold fullF; split <;> omega)
  unfold countZ wetN seaZ
  split
  · omega
  split
  · omega
  split
  · omega
  split
  · omega
  split
  · omega
  split
  · omega
  · omega
theorem noZ_r (hA : okA az) (c : Int) : -1 ≤ noZ az (lakeZ az c) ∧ noZ az (lakeZ az c) < 36 := by
  have h4 := nL_r hA.L
  rcases lakeZ_p (az := az) c with e | e
  · unfold noZ; rw [if_pos e]; omega
  · obtain ⟨n, hn, hk⟩ := ordK_s hA (k := lakeZ az c) ⟨e.1, e.2.1⟩
    rw [noZ_e hA.L hn hk]; omega
theorem cellZ_r (hA : okA az) (hB : okB az) {c : Int} (hc : isC az c) (w : Int) : -1 ≤ cellZ az c w ∧ cellZ az c w ≤ 99 := by
  have h1 := hA.L.hg (hc.lt hA.L)
  have h2 := bI_r (inS (az 2) c)
  have h3 := hB c hc
  have h4 := noZ_r hA c
  have h5 := bI_r (wetP az c)
  have h6 := bI_r (inS (az 512) c)
  unfold cellZ
  split
  · omega
  split
  · omega
  split
  · omega
  split
  · omega
  split
  · omega
  · omega
theorem lkV_r (hA : okA az) (hW : waterZ az ≤ 4000000) {k : Int} (q : isK az k) (w : Int) : -2 ≤ lkV az k w ∧ lkV az k w ≤ 4000000 := by
  have h1 := ((hA.K hW).1 k q.1).2.1
  have h2 := capZ_r hA.L (az (152 + k))
  have h3 := (lowZ_p (hA.S k q.1).1 (hA.n k q.1 q.2)).1
  have h4 := cntP_r (fun c => inS (az (152 + k)) c) 36
  have h5 := cntm_r hA.L (fun c => inS (az (152 + k)) c ∧ wetP az c)
  have h6 := cntm_r hA.L (fun c => bsP az (az (152 + k)) c c)
  have h7 := least_r hA.L k
  have h8 : (-1 ≤ (pass az (az (152 + k))).1 ∧ (pass az (az (152 + k))).1 ≤ 99) ∧ (-1 ≤ (pass az (az (152 + k))).2.1 ∧ (pass az (az (152 + k))).2.1 < 36) ∧ (-1 ≤ (pass az (az (152 + k))).2.2 ∧ (pass az (az (152 + k))).2.2 < 36) := by
    rcases pass_at hA.L (az (152 + k)) with e | ⟨a, s, ha, hs, _, hn, _, e⟩
    · rw [e]; decide
    · rw [e]
      have hb := (nbr_r hA.L ha (s := s)).resolve_left hn
      have := thr_r hA.L ha hb
      have := ha.lt hA.L
      have := hb.lt hA.L
      exact ⟨by show -1 ≤ thr az a (nbr az a s) ∧ thr az a (nbr az a s) ≤ 99; omega, by show -1 ≤ a ∧ a < 36; omega, by show -1 ≤ nbr az a s ∧ nbr az a s < 36; omega⟩
  unfold lkV bcZ wetZ bsZ
  split
  · omega
  split
  · omega
  split
  · omega
  split
  · omega
  split
  · omega
  split
  · omega
  split
  · omega
  split
  · omega
  split
  · omega
  · omega
/-- a level there is -/
theorem LV_x (hL : okL az) {m vol c : Int} (hc : isC az c) (hi : inS m c) : ∃ S B, LV az m vol S B := by
  have h99 : lvD az m vol 99 := by
    refine ⟨blZ_in hL hc hi (by have := hL.hg (hc.lt hL); omega), Or.inl (fun x hx _ => by have := hL.hg (hx.lt hL); omega)⟩
  have key : ∀ n : Nat, ∀ v : Int, v < n → 0 ≤ v ∧ v < 100 → lvD az m vol v → ∃ S B, LV az m vol S B := by
    intro n
    induction n with
    | zero => intro v h1 h2 _; omega
    | succ n ih =>
      intro v h1 h2 h3
      by_cases e : ∃ u, (0 ≤ u ∧ u < v) ∧ lvD az m vol u
      · obtain ⟨u, hu, h4⟩ := e
        exact ih u (by omega) (by omega) h4
      · exact ⟨_, _, v, h2, rfl, rfl, h3, fun u hu h4 => e ⟨u, hu, h4⟩⟩
  exact key 100 99 (by omega) (by omega) h99
theorem isK.LV (h : okA az) {k : Int} (q : isK az k) : ∃ S B, LV az (az (152 + k)) (az (224 + k)) S B := by
  have hl := lowZ_p (h.S k q.1).1 (h.n k q.1 q.2)
  exact LV_x h.L ((h.S k q.1).2 _ hl.1.1 hl.2.1) hl.2.1
theorem lvZ_r (hA : okA az) (hW : waterZ az ≤ 4000000) {k : Int} (q : isK az k) (p : Int) : 0 ≤ lvZ az k p ∧ lvZ az k p ≤ 4003564 := by
  have h1 := ((hA.K hW).1 k q.1).2.1
  obtain ⟨S, B, hl⟩ := q.LV hA
  have hr := LV_r hA.L hl h1
  rw [lvZ_e hl]
  have hg : 0 < (Int.gcd S B : Int) := by
    have := Int.gcd_pos_of_ne_zero_right S (show B ≠ 0 by omega)
    omega
  have key : ∀ x : Int, 0 ≤ x → 0 ≤ x / (Int.gcd S B : Int) ∧ x / (Int.gcd S B : Int) ≤ x := fun x hx => ⟨Int.ediv_nonneg hx (by omega), Int.ediv_le_self _ hx⟩
  split
  · have := key S (by omega); omega
  · have := key B (by omega); omega
end SP15
