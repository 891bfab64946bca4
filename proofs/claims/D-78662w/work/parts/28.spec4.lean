/-! WHERE WATER ENDS: plains as numbers, the next plain, the end of a course -/
set_option maxRecDepth 100000
theorem set_ex (p : Int → Prop) : ∀ n : Nat, n ≤ 36 → ∃ m, okS m ∧ ∀ j, 0 ≤ j ∧ j < 36 → (inS m j ↔ j < n ∧ p j)
  | 0, _ => ⟨0, okS_0, fun j hj => ⟨fun h => absurd h (inS_0 j), fun h => by omega⟩⟩
  | n + 1, h => by
    obtain ⟨m, hm, hj⟩ := set_ex p n (by omega)
    by_cases hp : p n
    · refine ⟨orZ m (2 ^ (n : Int).toNat), okS_or hm (okS_bit (by omega)), fun j h0 => ?_⟩
      rw [inS_or, inS_bit (by omega) h0.1, hj j h0]
      constructor
      · intro h1
        rcases h1 with h1 | h1
        · exact ⟨by omega, h1.2⟩
        · subst h1; exact ⟨by omega, hp⟩
      · intro h1
        by_cases e : j = n
        · exact Or.inr e
        · exact Or.inl ⟨by omega, h1.2⟩
    · refine ⟨m, hm, fun j h0 => ?_⟩
      rw [hj j h0]
      constructor
      · intro h1; exact ⟨by omega, h1.2⟩
      · intro h1
        refine ⟨?_, h1.2⟩
        by_cases e : j = n
        · subst e; exact absurd h1.2 hp
        · omega
theorem set_ex36 (p : Int → Prop) : ∃ m, okS m ∧ ∀ j, 0 ≤ j ∧ j < 36 → (inS m j ↔ p j) := by
  obtain ⟨m, h1, h2⟩ := set_ex p 36 (by omega)
  exact ⟨m, h1, fun j hj => (h2 j hj).trans ⟨fun h => h.2, fun h => ⟨by omega, h⟩⟩⟩
noncomputable def plainZ (az : Int → Int) (c : Int) : Int := @Classical.epsilon Int ⟨0⟩ (isPl az c)
theorem plainZ_p (az : Int → Int) (c : Int) : isPl az c (plainZ az c) := by
  have := set_ex36 (pl az c)
  exact Classical.epsilon_spec (p := isPl az c) this
theorem isPl.e {az : Int → Int} {c m : Int} (h : isPl az c m) : m = plainZ az c := isPl_u h (plainZ_p az c)
noncomputable def nxt (az : Int → Int) (c : Int) : Int := if andZ (plainZ az c) (az 2) ≠ 0 then -1 else way az (plainZ az c)
noncomputable def enF (az : Int → Int) : Nat → Int → Int
  | 0, c => c
  | n + 1, c => if nxt az c = -1 then c else enF az n (nxt az c)
/-- a cell of the plain in which the course of c ends -/
noncomputable def enC (az : Int → Int) (c : Int) : Int := enF az 100 c
/-- the pit at the end of the course of c, 0 for the sea -/
noncomputable def endZ (az : Int → Int) (c : Int) : Int := if andZ (plainZ az (enC az c)) (az 2) = 0 then plainZ az (enC az c) else 0
section SP4
variable {az : Int → Int}
theorem plainZ_i {c : Int} (hc : 0 ≤ c ∧ c < 36) : inS (plainZ az c) c := ((plainZ_p az c).2 c hc).mpr (pl_0 c)
theorem nxt_r (hL : okL az) {c : Int} (hc : isC az c) : nxt az c = -1 ∨ (isC az (nxt az c) ∧ hgt az (nxt az c) < hgt az c) := by
  unfold nxt
  split
  · left; rfl
  · rcases way_r hL (plainZ az c) with h | ⟨x, h1, h2, h3, h4⟩
    · left; exact h
    · right
      have := pl_h (((plainZ_p az c).2 x (h1.lt hL)).mp h2)
      exact ⟨h3, by omega⟩
theorem enF_r (hL : okL az) : ∀ (n : Nat) (c : Int), isC az c → isC az (enF az n c)
  | 0, _, h => h
  | n + 1, c, h => by
    unfold enF
    split
    · exact h
    · exact enF_r hL n _ ((nxt_r hL h).resolve_left (by assumption)).1
theorem enC_r (hL : okL az) {c : Int} (hc : isC az c) : isC az (enC az c) := enF_r hL 100 c hc
theorem enF_i (hL : okL az) : ∀ (n n' : Nat) (c : Int), isC az c → hgt az c < n → hgt az c < n' → enF az n c = enF az n' c
  | 0, _, c, hc, h, _ => by have := hL.hg (hc.lt hL); omega
  | _ + 1, 0, c, hc, _, h => by have := hL.hg (hc.lt hL); omega
  | n + 1, n' + 1, c, hc, h, h' => by
    unfold enF
    split
    · rfl
    · have := (nxt_r hL hc).resolve_left (by assumption)
      exact enF_i hL n n' _ this.1 (by omega) (by omega)
theorem enC_stop {c : Int} (h : nxt az c = -1) : enC az c = c := by
  unfold enC enF
  rw [if_pos h]
theorem enC_step (hL : okL az) {c : Int} (hc : isC az c) (h : nxt az c ≠ -1) : enC az c = enC az (nxt az c) := by
  have h1 := (nxt_r hL hc).resolve_left h
  have h2 := hL.hg (hc.lt hL)
  show enF az (99 + 1) c = _
  unfold enF
  rw [if_neg h]
  exact enF_i hL 99 100 _ h1.1 (by omega) (by omega)
theorem enC_end (hL : okL az) : ∀ (n : Nat) (c : Int), isC az c → hgt az c < n → nxt az (enC az c) = -1
  | 0, c, hc, h => by have := hL.hg (hc.lt hL); omega
  | n + 1, c, hc, h => by
    by_cases e : nxt az c = -1
    · rw [enC_stop e]; exact e
    · rw [enC_step hL hc e]
      have h1 := (nxt_r hL hc).resolve_left e
      exact enC_end hL n _ h1.1 (by omega)
theorem endZ_ok (c : Int) : okS (endZ az c) := by
  unfold endZ
  split
  · exact (plainZ_p az _).1
  · exact okS_0
theorem endZ_step (hL : okL az) {c : Int} (hc : isC az c) (h : nxt az c ≠ -1) : endZ az c = endZ az (nxt az c) := by
  unfold endZ
  rw [enC_step hL hc h]
theorem endZ_pit {c : Int} (h : nxt az c = -1) (hd : andZ (plainZ az c) (az 2) = 0) : endZ az c = plainZ az c := by
  unfold endZ
  rw [enC_stop h, if_pos hd]
theorem endZ_sea {c : Int} (hd : andZ (plainZ az c) (az 2) ≠ 0) : endZ az c = 0 := by
  have h : nxt az c = -1 := by unfold nxt; rw [if_pos hd]
  unfold endZ
  rw [enC_stop h, if_neg hd]
end SP4
/-! the same land: what is found of it is the same -/
def sameL (az az' : Int → Int) : Prop := az' 0 = az 0 ∧ az' 1 = az 1 ∧ az' 2 = az 2 ∧ ∀ k, 8 ≤ k ∧ k < 116 → az' k = az k
section SP5
variable {az az' : Int → Int}
theorem sameL.rf : sameL az az := ⟨rfl, rfl, rfl, fun _ _ => rfl⟩
theorem sameL.sy (h : sameL az az') : sameL az' az := ⟨h.1.symm, h.2.1.symm, h.2.2.1.symm, fun k hk => (h.2.2.2 k hk).symm⟩
theorem sameL.tr {b : Int → Int} (h : sameL az az') (h2 : sameL az' b) : sameL az b := ⟨h2.1.trans h.1, h2.2.1.trans h.2.1, h2.2.2.1.trans h.2.2.1, fun k hk => (h2.2.2.2 k hk).trans (h.2.2.2 k hk)⟩
theorem sameL.m (h : sameL az az') : mny az' = mny az := by unfold mny; rw [h.1, h.2.1]
theorem sameL.c (h : sameL az az') (c : Int) : isC az' c ↔ isC az c := by unfold isC; rw [h.m]
theorem sameL.nb (h : sameL az az') (c s : Int) : nbr az' c s = nbr az c s := by unfold nbr; rw [h.m, h.1]
theorem sameL.hg (h : sameL az az') {c : Int} (hc : 0 ≤ c ∧ c < 36) : hgt az' c = hgt az c := h.2.2.2 (8 + c) (by omega)
theorem sameL.ga (h : sameL az az') (a b : Int) : gat az' a b = gat az a b := by unfold gat; rw [h.nb]
theorem sameL.ok (h : sameL az az') (hL : okL az) : okL az' := by
  obtain ⟨h1, h2, h3, h4, h5⟩ := hL
  refine ⟨by rw [h.1]; exact h1, by rw [h.2.1]; exact h2, fun c hc => ?_, fun k hk => ?_, by rw [h.2.2.1]; exact h5⟩
  · rw [h.2.2.2 (8 + c) (by omega)]; exact h3 c hc
  · rw [h.2.2.2 k (by omega)]; exact h4 k hk
theorem sameL.th (h : sameL az az') (hL : okL az) {a b : Int} (ha : isC az a) (hb : isC az b) : thr az' a b = thr az a b := by
  unfold thr
  rw [h.ga, h.hg (ha.lt hL), h.hg (hb.lt hL), h.2.2.2 _ (by have := gat_r hL ha hb; omega)]
theorem sameL.st (h : sameL az az') (hL : okL az) (a b : Int) : step az' a b ↔ step az a b := by
  unfold step
  rw [h.c, h.c]
  constructor
  · rintro ⟨h1, h2, h3, h4, s, hs, h5⟩
    rw [h.hg (h1.lt hL), h.hg (h2.lt hL)] at h3
    rw [h.th hL h1 h2, h.hg (h1.lt hL)] at h4
    exact ⟨h1, h2, h3, h4, s, hs, by rw [← h.nb]; exact h5⟩
  · rintro ⟨h1, h2, h3, h4, s, hs, h5⟩
    rw [h.hg (h1.lt hL), h.hg (h2.lt hL), h.th hL h1 h2]
    exact ⟨h1, h2, h3, h4, s, hs, by rw [h.nb]; exact h5⟩
theorem sameL.plq (h : sameL az az') (hL : okL az) (c j : Int) : pl az' c j ↔ pl az c j := by
  constructor
  · exact fun q S h0 h1 => q S h0 (fun a b ha hab => h1 a b ha ((h.st hL a b).mp hab))
  · exact fun q S h0 h1 => q S h0 (fun a b ha hab => h1 a b ha ((h.st hL a b).mpr hab))
theorem sameL.pz (h : sameL az az') (hL : okL az) (c : Int) : plainZ az' c = plainZ az c := by
  refine isPl_u (az := az) (c := c) ⟨(plainZ_p az' c).1, fun j hj => ?_⟩ (plainZ_p az c)
  exact ((plainZ_p az' c).2 j hj).trans (h.plq hL c j)
theorem sameL.lbq (h : sameL az az') (hL : okL az) {a : Int} (ha : isC az a) : ∀ n : Nat, lbI az' a n = lbI az a n
  | 0 => rfl
  | n + 1 => by
    show lbA az' a (lbI az' a n) n = lbA az a (lbI az a n) n
    rw [sameL.lbq h hL ha n]
    unfold lbA
    rw [h.nb]
    rcases nbr_r hL ha (s := n) with h1 | h1
    · rw [if_neg (fun q => q.1 h1), if_neg (fun q => q.1 h1)]
    · rw [h.hg (h1.lt hL), h.hg (ha.lt hL), h.th hL ha h1]
      rcases lbI_r hL ha n with h2 | h2
      · rw [h2]
        simp
      · rw [h.hg (h2.1.lt hL)]
theorem sameL.wy (h : sameL az az') (hL : okL az) (m : Int) : way az' m = way az m := by
  have : ∀ (n a : Nat), (a + n : Int) ≤ mny az → wyI az' m a n = wyI az m a n := by
    intro n
    induction n with
    | zero => intro a _; rfl
    | succ n ih =>
      intro a ha
      have ha2 : isC az (a : Int) := ⟨by omega, by omega⟩
      have e : lb az' a = lb az a := h.lbq hL ha2 4
      unfold wyI
      rw [e, ih (a + 1) (by omega)]
  unfold way
  rw [h.m]
  exact this _ 0 (by have := hL.m; omega)
theorem sameL.nx (h : sameL az az') (hL : okL az) (c : Int) : nxt az' c = nxt az c := by
  unfold nxt
  rw [h.pz hL, h.2.2.1, h.wy hL]
theorem sameL.ef (h : sameL az az') (hL : okL az) : ∀ (n : Nat) (c : Int), enF az' n c = enF az n c
  | 0, _ => rfl
  | n + 1, c => by
    unfold enF
    rw [h.nx hL, sameL.ef h hL n]
theorem sameL.en (h : sameL az az') (hL : okL az) (c : Int) : enC az' c = enC az c := h.ef hL 100 c
theorem sameL.ez (h : sameL az az') (hL : okL az) (c : Int) : endZ az' c = endZ az c := by
  unfold endZ
  rw [h.en hL, h.pz hL, h.2.2.1]
theorem sameL.psq (h : sameL az az') (hL : okL az) {m a : Int} (ha : isC az a) (t : Int × Int × Int) : ∀ n : Nat, psI az' m a t n = psI az m a t n
  | 0 => rfl
  | n + 1 => by
    show psA az' m a (psI az' m a t n) n = psA az m a (psI az m a t n) n
    rw [sameL.psq h hL ha t n]
    unfold psA
    rw [h.nb]
    rcases nbr_r hL ha (s := n) with h1 | h1
    · rw [if_neg (fun q => q.1 h1), if_neg (fun q => q.1 h1)]
    · rw [h.th hL ha h1]
theorem sameL.psn (h : sameL az az') (hL : okL az) {m : Int} : ∀ n : Nat, (n : Int) ≤ mny az → ps az' m n = ps az m n
  | 0, _ => rfl
  | n + 1, hn => by
    have e := sameL.psn h hL (m := m) n (by omega)
    unfold ps
    rw [e, sameL.psq h hL ⟨by omega, by omega⟩]
theorem sameL.pa (h : sameL az az') (hL : okL az) (m : Int) : pass az' m = pass az m := by
  unfold pass
  rw [h.m]
  exact h.psn hL _ (by have := hL.m; omega)
theorem sameL.cs (h : sameL az az') {m p : Int} : ∀ n : Nat, n ≤ 36 → capS az' m p n = capS az m p n
  | 0, _ => rfl
  | n + 1, hn => by
    unfold capS
    rw [sameL.cs h n (by omega), h.hg (c := n) (by omega)]
theorem sameL.cz (h : sameL az az') (hL : okL az) (m : Int) : capZ az' m = capZ az m := by
  unfold capZ
  rw [h.pa hL, h.m, h.cs _ (by have := hL.m; omega)]
end SP5
