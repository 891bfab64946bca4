/-! THE NUMBERS OF A LAND, as the model's array 'all' holds them: az k is the entry k -/
set_option maxRecDepth 100000
/-- a truth value as a number -/
def isB (z : Int) (P : Prop) : Prop := (z = 1 ∧ P) ∨ (z = 0 ∧ ¬ P)
theorem isB.t {z : Int} {P : Prop} (h : isB z P) (hz : z ≠ 0) : P := by
  rcases h with h | h
  · exact h.2
  · exact absurd h.1 hz
theorem isB.f {z : Int} {P : Prop} (h : isB z P) (hz : z = 0) : ¬ P := by
  rcases h with h | h
  · omega
  · exact h.2
theorem isB.r {z : Int} {P : Prop} (h : isB z P) : -2147483648 ≤ z ∧ z ≤ 2147483647 := by
  rcases h with h | h <;> omega
theorem isB.z {z : Int} {P : Prop} (h : isB z P) : z = 0 ∨ z = 1 := by
  rcases h with h | h <;> omega
theorem isB.i1 {P : Prop} (h : P) : isB 1 P := Or.inl ⟨rfl, h⟩
theorem isB.i0 {P : Prop} (h : ¬ P) : isB 0 P := Or.inr ⟨rfl, h⟩
theorem isB.eq {z z' : Int} {P Q : Prop} (h : isB z P) (h' : isB z' Q) (e : P ↔ Q) : z = z' := by
  rcases h with ⟨h1, h2⟩ | ⟨h1, h2⟩ <;> rcases h' with ⟨h3, h4⟩ | ⟨h3, h4⟩
  · omega
  · exact absurd (e.mp h2) h4
  · exact absurd (e.mpr h4) h2
  · omega
theorem isB.iff {z : Int} {P Q : Prop} (h : isB z P) (e : P ↔ Q) : isB z Q := by
  rcases h with ⟨h1, h2⟩ | ⟨h1, h2⟩
  · exact Or.inl ⟨h1, e.mp h2⟩
  · exact Or.inr ⟨h1, fun q => h2 (e.mpr q)⟩
def mny (az : Int → Int) : Int := az 0 * az 1
def hgt (az : Int → Int) (c : Int) : Int := az (8 + c)
def nbr (az : Int → Int) (c s : Int) : Int :=
  if s = 0 then (if az 0 ≤ c then c - az 0 else -1) else if s = 1 then (if 0 < c % az 0 then c - 1 else -1) else if s = 2 then (if c % az 0 < az 0 - 1 then c + 1 else -1) else (if c + az 0 < mny az then c + az 0 else -1)
def isNb (az : Int → Int) (a b : Int) : Prop := nbr az a 0 = b ∨ nbr az a 1 = b ∨ nbr az a 2 = b ∨ nbr az a 3 = b
abbrev isC (az : Int → Int) (c : Int) : Prop := 0 ≤ c ∧ c < mny az
def gat (az : Int → Int) (a b : Int) : Int := if (if a < b then b else a) = nbr az (if a < b then a else b) 2 then 44 + (if a < b then a else b) else 80 + (if a < b then a else b)
def mx (a b : Int) : Int := if b < a then a else b
def thr (az : Int → Int) (a b : Int) : Int := mx (az (gat az a b)) (mx (hgt az a) (hgt az b))
/-- a land: its sides, heights, gates and drains are in range -/
def okL (az : Int → Int) : Prop := (1 ≤ az 0 ∧ az 0 ≤ 6) ∧ (1 ≤ az 1 ∧ az 1 ≤ 6) ∧ (∀ c, 0 ≤ c ∧ c < 36 → 0 ≤ az (8 + c) ∧ az (8 + c) ≤ 99) ∧ (∀ k, 44 ≤ k ∧ k < 116 → -1 ≤ az k ∧ az k ≤ 99) ∧ okS (az 2)
section SP1
variable {az : Int → Int}
theorem okL.w (h : okL az) : 1 ≤ az 0 ∧ az 0 ≤ 6 := h.1
theorem okL.h (h : okL az) : 1 ≤ az 1 ∧ az 1 ≤ 6 := h.2.1
theorem okL.m (h : okL az) : 1 ≤ mny az ∧ mny az ≤ 36 := by
  obtain ⟨⟨h1, h2⟩, ⟨h3, h4⟩, -⟩ := h
  unfold mny
  rcases (show az 0 = 1 ∨ az 0 = 2 ∨ az 0 = 3 ∨ az 0 = 4 ∨ az 0 = 5 ∨ az 0 = 6 by omega) with e | e | e | e | e | e <;> rw [e] <;> omega
theorem okL.hg (h : okL az) {c : Int} (hc : 0 ≤ c ∧ c < 36) : 0 ≤ hgt az c ∧ hgt az c ≤ 99 := h.2.2.1 c hc
theorem okL.gt (h : okL az) {k : Int} (hk : 44 ≤ k ∧ k < 116) : -1 ≤ az k ∧ az k ≤ 99 := h.2.2.2.1 k hk
theorem okL.dr (h : okL az) : okS (az 2) := h.2.2.2.2
theorem isC.lt (h : okL az) {c : Int} (hc : isC az c) : 0 ≤ c ∧ c < 36 := by
  have := h.m
  unfold isC at hc
  omega
theorem nbr_0 (c : Int) : nbr az c 0 = if az 0 ≤ c then c - az 0 else -1 := rfl
theorem nbr_1 (c : Int) : nbr az c 1 = if 0 < c % az 0 then c - 1 else -1 := rfl
theorem nbr_2 (c : Int) : nbr az c 2 = if c % az 0 < az 0 - 1 then c + 1 else -1 := rfl
theorem nbr_3 (c : Int) : nbr az c 3 = if c + az 0 < mny az then c + az 0 else -1 := rfl
theorem nbr_r (h : okL az) {c s : Int} (hc : isC az c) : nbr az c s = -1 ∨ isC az (nbr az c s) := by
  obtain ⟨h1, h2⟩ := h.w
  unfold isC at hc ⊢
  have hm : 0 ≤ c % az 0 ∧ c % az 0 < az 0 := ⟨Int.emod_nonneg _ (by omega), Int.emod_lt_of_pos _ (by omega)⟩
  unfold nbr
  split
  · split
    · right; omega
    · left; rfl
  · split
    · split
      · right
        have : c % az 0 ≤ c := by
          have := Int.mul_ediv_add_emod c (az 0)
          have h3 : 0 ≤ az 0 * (c / az 0) := Int.mul_nonneg (by omega) (Int.ediv_nonneg hc.1 (by omega))
          omega
        omega
      · left; rfl
    · split
      · split
        · right
          refine ⟨by omega, ?_⟩
          have e := Int.mul_ediv_add_emod c (az 0)
          have hq : c / az 0 < az 1 := by
            apply Int.ediv_lt_of_lt_mul (by omega)
            unfold mny at hc
            rw [Int.mul_comm]
            exact hc.2
          have h4 : az 0 * (c / az 0 + 1) ≤ az 0 * az 1 := Int.mul_le_mul_of_nonneg_left (by omega) (by omega)
          rw [Int.mul_add] at h4
          unfold mny
          omega
        · left; rfl
      · split
        · right; omega
        · left; rfl
theorem gat_r (h : okL az) {a b : Int} (ha : isC az a) (hb : isC az b) : 44 ≤ gat az a b ∧ gat az a b < 116 := by
  have h1 := ha.lt h
  have h2 := hb.lt h
  unfold gat
  split <;> split <;> omega
theorem thr_r (h : okL az) {a b : Int} (ha : isC az a) (hb : isC az b) : 0 ≤ thr az a b ∧ thr az a b ≤ 99 := by
  have h1 := h.hg (ha.lt h)
  have h2 := h.hg (hb.lt h)
  have h3 := h.gt (gat_r h ha hb)
  unfold thr mx
  split <;> (try split) <;> omega
end SP1
