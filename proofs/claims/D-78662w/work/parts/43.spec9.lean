/-! POURING: the lakes and what holds of them -/
set_option maxRecDepth 100000
def tpF (az : Int → Int) (k : Int) : Int := if az (440 + k) = 1 then 1 else 0
def usF (az : Int → Int) (k : Int) : Int := if az (152 + k) ≠ 0 then 1 else 0
def nfF (az : Int → Int) (k : Int) : Int := if az (440 + k) = 1 ∧ az (224 + k) ≠ capZ az (az (152 + k)) then 1 else 0
def wtF (az : Int → Int) (k : Int) : Int := if az (440 + k) = 1 then az (224 + k) else 0
/-- what holds of a land with its lakes -/
def okA (az : Int → Int) : Prop := (okL az) ∧ (okS (az 512)) ∧ (0 ≤ az 6 ∧ az 6 ≤ 36) ∧ (∀ k, 0 ≤ k ∧ k < 72 → okS (az (152 + k)) ∧ ∀ c, 0 ≤ c → inS (az (152 + k)) c → isC az c) ∧ (∀ k, 0 ≤ k ∧ k < 72 → az (440 + k) = 0 ∨ az (440 + k) = 1) ∧ (∀ k, 0 ≤ k ∧ k < 72 → az (440 + k) = 1 → az (152 + k) ≠ 0) ∧ (∀ k, 0 ≤ k ∧ k < 72 → 0 ≤ az (224 + k)) ∧ (∀ k, 0 ≤ k ∧ k < 72 → capZ az (az (152 + k)) = -1 ∨ az (224 + k) ≤ capZ az (az (152 + k))) ∧ (∀ k, 0 ≤ k ∧ k < 72 → az (440 + k) = 0 → az (152 + k) ≠ 0 → az (224 + k) = capZ az (az (152 + k))) ∧ (∀ k j, 0 ≤ k ∧ k < 72 → 0 ≤ j ∧ j < 72 → az (440 + k) = 1 → az (440 + j) = 1 → k ≠ j → ∀ c, inS (az (152 + k)) c → inS (az (152 + j)) c → False) ∧ (∀ k, 0 ≤ k ∧ k < 72 → az (152 + k) = 0 → az (224 + k) = 0 ∧ az (296 + k) = 0 ∧ az (368 + k) = 0) ∧ (∀ k, 0 ≤ k ∧ k < 72 → (0 ≤ az (296 + k) ∧ az (296 + k) < 72) ∧ (0 ≤ az (368 + k) ∧ az (368 + k) < 72)) ∧ (∀ k, 0 ≤ k ∧ k < 72 → az (296 + k) ≠ az (368 + k) → az (152 + k) = orZ (az (152 + az (296 + k))) (az (152 + az (368 + k))) ∧ az (152 + az (296 + k)) ≠ 0 ∧ az (152 + az (368 + k)) ≠ 0 ∧ az (440 + az (296 + k)) = 0 ∧ az (440 + az (368 + k)) = 0 ∧ (∀ c, inS (az (152 + az (296 + k))) c → inS (az (152 + az (368 + k))) c → False) ∧ az (224 + az (296 + k)) + az (224 + az (368 + k)) ≤ az (224 + k)) ∧ (∀ k i, 0 ≤ k ∧ k < 72 → 0 ≤ i ∧ i < 72 → az (296 + k) ≠ az (368 + k) → az (296 + i) ≠ az (368 + i) → k ≠ i → az (296 + k) ≠ az (296 + i) ∧ az (296 + k) ≠ az (368 + i) ∧ az (368 + k) ≠ az (296 + i) ∧ az (368 + k) ≠ az (368 + i)) ∧ (sm (usF az) 72 + sm (tpF az) 72 = 2 * az 6) ∧ (∀ k, 0 ≤ k ∧ k < 72 → ∀ c, isC az c → inS (az (152 + k)) c → az (116 + c) ≠ -1 ∧ ∀ c', isC az c' → az (116 + c') = az (116 + c) → inS (az (152 + k)) c')
theorem okA.L {az : Int → Int} (h : okA az) : okL az := h.1
theorem okA.P {az : Int → Int} (h : okA az) : okS (az 512) := h.2.1
theorem okA.B {az : Int → Int} (h : okA az) : 0 ≤ az 6 ∧ az 6 ≤ 36 := h.2.2.1
theorem okA.S {az : Int → Int} (h : okA az) : ∀ k, 0 ≤ k ∧ k < 72 → okS (az (152 + k)) ∧ ∀ c, 0 ≤ c → inS (az (152 + k)) c → isC az c := h.2.2.2.1
theorem okA.t {az : Int → Int} (h : okA az) : ∀ k, 0 ≤ k ∧ k < 72 → az (440 + k) = 0 ∨ az (440 + k) = 1 := h.2.2.2.2.1
theorem okA.n {az : Int → Int} (h : okA az) : ∀ k, 0 ≤ k ∧ k < 72 → az (440 + k) = 1 → az (152 + k) ≠ 0 := h.2.2.2.2.2.1
theorem okA.v {az : Int → Int} (h : okA az) : ∀ k, 0 ≤ k ∧ k < 72 → 0 ≤ az (224 + k) := h.2.2.2.2.2.2.1
theorem okA.c {az : Int → Int} (h : okA az) : ∀ k, 0 ≤ k ∧ k < 72 → capZ az (az (152 + k)) = -1 ∨ az (224 + k) ≤ capZ az (az (152 + k)) := h.2.2.2.2.2.2.2.1
theorem okA.e {az : Int → Int} (h : okA az) : ∀ k, 0 ≤ k ∧ k < 72 → az (440 + k) = 0 → az (152 + k) ≠ 0 → az (224 + k) = capZ az (az (152 + k)) := h.2.2.2.2.2.2.2.2.1
theorem okA.d {az : Int → Int} (h : okA az) : ∀ k j, 0 ≤ k ∧ k < 72 → 0 ≤ j ∧ j < 72 → az (440 + k) = 1 → az (440 + j) = 1 → k ≠ j → ∀ c, inS (az (152 + k)) c → inS (az (152 + j)) c → False := h.2.2.2.2.2.2.2.2.2.1
theorem okA.f {az : Int → Int} (h : okA az) : ∀ k, 0 ≤ k ∧ k < 72 → az (152 + k) = 0 → az (224 + k) = 0 ∧ az (296 + k) = 0 ∧ az (368 + k) = 0 := h.2.2.2.2.2.2.2.2.2.2.1
theorem okA.r {az : Int → Int} (h : okA az) : ∀ k, 0 ≤ k ∧ k < 72 → (0 ≤ az (296 + k) ∧ az (296 + k) < 72) ∧ (0 ≤ az (368 + k) ∧ az (368 + k) < 72) := h.2.2.2.2.2.2.2.2.2.2.2.1
theorem okA.j {az : Int → Int} (h : okA az) : ∀ k, 0 ≤ k ∧ k < 72 → az (296 + k) ≠ az (368 + k) → az (152 + k) = orZ (az (152 + az (296 + k))) (az (152 + az (368 + k))) ∧ az (152 + az (296 + k)) ≠ 0 ∧ az (152 + az (368 + k)) ≠ 0 ∧ az (440 + az (296 + k)) = 0 ∧ az (440 + az (368 + k)) = 0 ∧ (∀ c, inS (az (152 + az (296 + k))) c → inS (az (152 + az (368 + k))) c → False) ∧ az (224 + az (296 + k)) + az (224 + az (368 + k)) ≤ az (224 + k) := h.2.2.2.2.2.2.2.2.2.2.2.2.1
theorem okA.u {az : Int → Int} (h : okA az) : ∀ k i, 0 ≤ k ∧ k < 72 → 0 ≤ i ∧ i < 72 → az (296 + k) ≠ az (368 + k) → az (296 + i) ≠ az (368 + i) → k ≠ i → az (296 + k) ≠ az (296 + i) ∧ az (296 + k) ≠ az (368 + i) ∧ az (368 + k) ≠ az (296 + i) ∧ az (368 + k) ≠ az (368 + i) := h.2.2.2.2.2.2.2.2.2.2.2.2.2.1
theorem okA.q {az : Int → Int} (h : okA az) : sm (usF az) 72 + sm (tpF az) 72 = 2 * az 6 := h.2.2.2.2.2.2.2.2.2.2.2.2.2.2.1
theorem okA.g {az : Int → Int} (h : okA az) : ∀ k, 0 ≤ k ∧ k < 72 → ∀ c, isC az c → inS (az (152 + k)) c → az (116 + c) ≠ -1 ∧ ∀ c', isC az c' → az (116 + c') = az (116 + c) → inS (az (152 + k)) c' := h.2.2.2.2.2.2.2.2.2.2.2.2.2.2.2
/-- only water and lakes have changed -/
def sameB (az az' : Int → Int) : Prop := ∀ k, (k < 3 ∨ (6 ≤ k ∧ k < 152) ∨ 512 ≤ k) → az' k = az k
section SP9
variable {az az' : Int → Int}
theorem sameB.rf : sameB az az := fun _ _ => rfl
theorem sameB.tr {b : Int → Int} (h : sameB az az') (h2 : sameB az' b) : sameB az b := fun k hk => (h2 k hk).trans (h k hk)
theorem sameB.L (h : sameB az az') : sameL az az' := ⟨h 0 (by omega), h 1 (by omega), h 2 (by omega), fun k hk => h k (by omega)⟩
theorem sameB.f (h : sameB az az') {k v : Int} (hk : ¬ (k < 3 ∨ (6 ≤ k ∧ k < 152) ∨ 512 ≤ k)) : sameB az (fup az' k v) := fun j hj => by
  rw [fup_n _ _ (by rintro rfl; exact hk hj)]
  exact h j hj
theorem waS_sm : ∀ n : Nat, waS az n = sm (wtF az) n
  | 0 => rfl
  | n + 1 => by
    show waS az n + _ = sm (wtF az) n + _
    rw [waS_sm n]
    rfl
theorem water_sm : waterZ az = sm (wtF az) 72 := waS_sm 72
def frK (az : Int → Int) : Nat → Nat → Nat
  | 0, k => k
  | n + 1, k => if az (152 + k) = 0 then k else frK az n (k + 1)
/-- the first place without a lake -/
def freeK (az : Int → Int) : Int := (frK az 72 0 : Nat)
theorem frK_p : ∀ (n k : Nat), (∃ j : Nat, k ≤ j ∧ j < k + n ∧ az (152 + j) = 0) → k ≤ frK az n k ∧ frK az n k < k + n ∧ az (152 + (frK az n k : Nat)) = 0 ∧ ∀ j : Nat, k ≤ j → j < frK az n k → az (152 + j) ≠ 0
  | 0, k, ⟨j, h1, h2, _⟩ => by omega
  | n + 1, k, ⟨j, h1, h2, h3⟩ => by
    unfold frK
    by_cases e : az (152 + k) = 0
    · rw [if_pos e]
      exact ⟨Nat.le_refl _, by omega, e, fun j q1 q2 => by omega⟩
    · rw [if_neg e]
      have hj : j ≠ k := by rintro rfl; exact e h3
      obtain ⟨q1, q2, q3, q4⟩ := frK_p n (k + 1) ⟨j, by omega, by omega, h3⟩
      refine ⟨by omega, by omega, q3, fun i hi1 hi2 => ?_⟩
      by_cases e2 : i = k
      · rw [e2]; exact e
      · exact q4 i (by omega) hi2
theorem freeK_p (h : ∃ j : Int, (0 ≤ j ∧ j < 72) ∧ az (152 + j) = 0) : (0 ≤ freeK az ∧ freeK az < 72) ∧ az (152 + freeK az) = 0 ∧ ∀ j, 0 ≤ j ∧ j < freeK az → az (152 + j) ≠ 0 := by
  obtain ⟨j, hj, h0⟩ := h
  obtain ⟨j, rfl⟩ := Int.eq_ofNat_of_zero_le hj.1
  obtain ⟨h1, h2, h3, h4⟩ := frK_p (az := az) 72 0 ⟨j, by omega, by omega, h0⟩
  refine ⟨⟨by unfold freeK; omega, by unfold freeK; omega⟩, h3, fun i hi => ?_⟩
  obtain ⟨i, rfl⟩ := Int.eq_ofNat_of_zero_le hi.1
  exact h4 i (by omega) (by have := hi.2; unfold freeK at this; omega)
theorem freeK_u {k : Int} (hk : 0 ≤ k ∧ k < 72) (h0 : az (152 + k) = 0) (h : ∀ j, 0 ≤ j ∧ j < k → az (152 + j) ≠ 0) : k = freeK az := by
  obtain ⟨h1, h2, h3⟩ := freeK_p (az := az) ⟨k, hk, h0⟩
  by_cases e : k < freeK az
  · exact absurd h0 (h3 k ⟨hk.1, e⟩)
  · by_cases e2 : freeK az < k
    · exact absurd h2 (h _ ⟨h1.1, e2⟩)
    · omega
/-- two lakes become one -/
def joinF (az : Int → Int) (x y : Int) : Int → Int :=
  fup (fup (fup (fup (fup (fup (fup az (152 + freeK az) (orZ (az (152 + x)) (az (152 + y)))) (224 + freeK az) (az (224 + x) + az (224 + y))) (296 + freeK az) x) (368 + freeK az) y) (440 + freeK az) 1) (440 + x) 0) (440 + y) 0
def addF (az : Int → Int) (k r : Int) : Int → Int := fup az (224 + k) (az (224 + k) + r)
/-- what a lake takes of r -/
def addZ (az : Int → Int) (k r : Int) : Int := if capZ az (az (152 + k)) = -1 then r else if r < capZ az (az (152 + k)) - az (224 + k) then r else capZ az (az (152 + k)) - az (224 + k)
/-- what flows over from k, of the pass p, joins with the lake o -/
abbrev jnP (az : Int → Int) (k o : Int) : Prop := o ≠ -1 ∧ az (224 + o) = capZ az (az (152 + o)) ∧ (pass az (az (152 + o))).1 = (pass az (az (152 + k))).1
/-- r is poured into the lake k, or flows into the sea -/
def pourO : Nat → (Int → Int) → Int → Int → Option (Int → Int)
  | 0, _, _, _ => none
  | n + 1, az, k, r =>
    if r ≤ 0 then some az else if k = -1 then some (fup az 3 (az 3 + r)) else
      if r - addZ az k r ≤ 0 then pourO n (addF az k (addZ az k r)) k (r - addZ az k r) else
        if jnP (addF az k (addZ az k r)) k (lakeZ az (pass az (az (152 + k))).2.2) then pourO n (joinF (addF az k (addZ az k r)) k (lakeZ az (pass az (az (152 + k))).2.2)) (freeK az) (r - addZ az k r)
        else pourO n (addF az k (addZ az k r)) (lakeZ az (pass az (az (152 + k))).2.2) (r - addZ az k r)
theorem sm_lt {f : Int → Int} : ∀ n : Nat, (∀ k : Int, 0 ≤ k ∧ k < n → f k = 1) → sm f n = n
  | 0, _ => rfl
  | n + 1, h => by
    unfold sm
    rw [sm_lt n (fun k hk => h k (by omega)), h n (by omega)]
    omega
theorem tp_r (k : Int) : 0 ≤ tpF az k ∧ tpF az k ≤ 1 := by unfold tpF; split <;> omega
theorem us_r (k : Int) : 0 ≤ usF az k ∧ usF az k ≤ 1 := by unfold usF; split <;> omega
theorem nf_r (k : Int) : 0 ≤ nfF az k ∧ nfF az k ≤ 1 := by unfold nfF; split <;> omega
theorem nf_tp : ∀ n : Nat, sm (nfF az) n ≤ sm (tpF az) n
  | 0 => Int.le_refl _
  | n + 1 => by
    have := nf_tp n
    unfold sm
    have : nfF az n ≤ tpF az n := by
      unfold nfF tpF
      split
      · rename_i h; rw [if_pos h.1]; omega
      · split <;> omega
    omega
/-- the lake of a cell is there, and has it -/
theorem lk_p (c : Int) : ∀ n : Nat, lk az c n = -1 ∨ ((0 ≤ lk az c n ∧ lk az c n < n) ∧ az (440 + lk az c n) = 1 ∧ inS (az (152 + lk az c n)) c)
  | 0 => Or.inl rfl
  | n + 1 => by
    unfold lk
    split
    · rename_i h
      exact Or.inr ⟨by omega, h⟩
    · rcases lk_p c n with h | ⟨h1, h2⟩
      · exact Or.inl h
      · exact Or.inr ⟨by omega, h2⟩
theorem lakeZ_p (c : Int) : lakeZ az c = -1 ∨ ((0 ≤ lakeZ az c ∧ lakeZ az c < 72) ∧ az (440 + lakeZ az c) = 1 ∧ inS (az (152 + lakeZ az c)) c) := lk_p c 72
/-- a lake of a cell is THE lake of it -/
theorem lk_u (h : okA az) {c k : Int} (hk : 0 ≤ k ∧ k < 72) (ht : az (440 + k) = 1) (hi : inS (az (152 + k)) c) : ∀ n : Nat, n ≤ 72 → k < n → lk az c n = k
  | 0, _, q => by omega
  | n + 1, hn, q => by
    unfold lk
    by_cases e : k = n
    · rw [← e, if_pos ⟨ht, hi⟩]
    · rw [if_neg (fun q2 => h.d k n hk (by omega) ht q2.1 e c hi q2.2)]
      exact lk_u h hk ht hi n (by omega) (by omega)
theorem lakeZ_u (h : okA az) {c k : Int} (hk : 0 ≤ k ∧ k < 72) (ht : az (440 + k) = 1) (hi : inS (az (152 + k)) c) : lakeZ az c = k := lk_u h hk ht hi 72 (Nat.le_refl _) (by omega)
theorem lk_e (c : Int) (h : ∀ k, 0 ≤ k ∧ k < 72 → az' (440 + k) = az (440 + k) ∧ az' (152 + k) = az (152 + k)) : ∀ n : Nat, n ≤ 72 → lk az' c n = lk az c n
  | 0, _ => rfl
  | n + 1, hn => by
    unfold lk
    rw [lk_e c h n (by omega), (h n (by omega)).1, (h n (by omega)).2]
/-- some place is free as long as there's a lake -/
theorem okA.free (h : okA az) {k : Int} (hk : 0 ≤ k ∧ k < 72) (ht : az (440 + k) = 1) : ∃ j : Int, (0 ≤ j ∧ j < 72) ∧ az (152 + j) = 0 := by
  by_cases e : ∃ j : Int, (0 ≤ j ∧ j < 72) ∧ az (152 + j) = 0
  · exact e
  · exfalso
    have h1 : sm (usF az) 72 = 72 := sm_lt 72 (fun j hj => if_pos (fun q => e ⟨j, hj, q⟩))
    have h2 : tpF az k ≤ sm (tpF az) 72 := sm_ge 72 (fun j _ => (tp_r j).1) hk
    have h3 : tpF az k = 1 := if_pos ht
    have := h.q
    have := h.B
    omega
/-- the numbers of lakes are in range -/
theorem okA.K (h : okA az) (hw : waterZ az ≤ 4000000) : okK az := by
  refine ⟨fun k hk => ⟨(h.S k hk).1, ⟨h.v k hk, ?_⟩, (h.r k hk).1, (h.r k hk).2, h.t k hk⟩, h.P⟩
  rcases h.t k hk with e | e
  · by_cases q : az (152 + k) = 0
    · have := (h.f k hk q).1; omega
    · have := h.e k hk e q
      have := capZ_r h.L (az (152 + k))
      omega
  · rw [water_sm] at hw
    have h2 : wtF az k ≤ sm (wtF az) 72 := sm_ge 72 (fun j hj => by unfold wtF; have := h.v j hj; split <;> omega) hk
    have h3 : wtF az k = az (224 + k) := if_pos e
    omega
/-- what okA says of the lakes hangs on nothing else -/
theorem okA.to (h : okA az) (hb : sameB az az') (hl : ∀ k, 152 ≤ k ∧ k < 512 → az' k = az k) : okA az' := by
  have hS := hb.L
  have eL := hS.cz h.L
  have e6 : az' 6 = az 6 := hb 6 (by omega)
  have E : ∀ b k, (b = 152 ∨ b = 224 ∨ b = 296 ∨ b = 368 ∨ b = 440) → 0 ≤ k ∧ k < 72 → az' (b + k) = az (b + k) := fun b k q hk => hl _ (by omega)
  have eu : sm (usF az') 72 = sm (usF az) 72 := sm_e 72 (fun k hk => by unfold usF; rw [E 152 k (by omega) hk])
  have et : sm (tpF az') 72 = sm (tpF az) 72 := sm_e 72 (fun k hk => by unfold tpF; rw [E 440 k (by omega) hk])
  refine ⟨hS.ok h.L, by rw [hb 512 (by omega)]; exact h.P, by rw [e6]; exact h.B, fun k hk => ?_, fun k hk => ?_, fun k hk => ?_, fun k hk => ?_, fun k hk => ?_, fun k hk => ?_, fun k j hk hj => ?_, fun k hk => ?_, fun k hk => ?_, fun k hk => ?_, fun k i hk hi => ?_, by rw [eu, et, e6]; exact h.q, fun k hk c hcc hc => ?_⟩
  · rw [E 152 k (by omega) hk]
    exact ⟨(h.S k hk).1, fun c h0 hc => (hS.c c).mpr ((h.S k hk).2 c h0 hc)⟩
  · rw [E 440 k (by omega) hk]; exact h.t k hk
  · rw [E 440 k (by omega) hk, E 152 k (by omega) hk]; exact h.n k hk
  · rw [E 224 k (by omega) hk]; exact h.v k hk
  · rw [E 224 k (by omega) hk, E 152 k (by omega) hk, eL]; exact h.c k hk
  · rw [E 440 k (by omega) hk, E 224 k (by omega) hk, E 152 k (by omega) hk, eL]; exact h.e k hk
  · rw [E 440 k (by omega) hk, E 440 j (by omega) hj, E 152 k (by omega) hk, E 152 j (by omega) hj]; exact h.d k j hk hj
  · rw [E 152 k (by omega) hk, E 224 k (by omega) hk, E 296 k (by omega) hk, E 368 k (by omega) hk]; exact h.f k hk
  · rw [E 296 k (by omega) hk, E 368 k (by omega) hk]; exact h.r k hk
  · obtain ⟨r1, r2⟩ := h.r k hk
    rw [E 296 k (by omega) hk, E 368 k (by omega) hk, E 152 k (by omega) hk, E 224 k (by omega) hk, E 152 _ (by omega) r1, E 152 _ (by omega) r2, E 440 _ (by omega) r1, E 440 _ (by omega) r2, E 224 _ (by omega) r1, E 224 _ (by omega) r2]; exact h.j k hk
  · rw [E 296 k (by omega) hk, E 368 k (by omega) hk, E 296 i (by omega) hi, E 368 i (by omega) hi]; exact h.u k i hk hi
  · rw [E 152 k (by omega) hk] at hc ⊢
    have hcA := (hS.c c).mp hcc
    have hcl := hcA.lt h.L
    rw [hb (116 + c) (by omega)]
    refine ⟨(h.g k hk c hcA hc).1, fun c' h1 h2 => ?_⟩
    have h1 := (hS.c c').mp h1
    have := h1.lt h.L
    rw [hb (116 + c') (by omega)] at h2
    exact (h.g k hk c hcA hc).2 c' h1 h2
end SP9
