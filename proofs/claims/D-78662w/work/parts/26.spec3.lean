/-! PLAINS AND WAYS -/
set_option maxRecDepth 100000
/-- from a to a neighbor b over the plain -/
def step (az : Int → Int) (a b : Int) : Prop := isC az a ∧ isC az b ∧ hgt az b = hgt az a ∧ thr az a b = hgt az a ∧ ∃ s, (0 ≤ s ∧ s < 4) ∧ nbr az a s = b
/-- j is a cell of c's plain: it is in every set that has c and is closed under steps -/
def pl (az : Int → Int) (c j : Int) : Prop := ∀ S : Int → Prop, S c → (∀ a b, S a → step az a b → S b) → S j
def isPl (az : Int → Int) (c m : Int) : Prop := okS m ∧ ∀ j, 0 ≤ j ∧ j < 36 → (inS m j ↔ pl az c j)
/-- the sides up to s of the cell a, and all cells before a, lead to cells of m -/
def clo (az : Int → Int) (m a s : Int) : Prop := ∀ x t, 0 ≤ x → 0 ≤ t ∧ t < 4 → (x < a ∨ (x = a ∧ t < s)) → inS m x → nbr az x t ≠ -1 → hgt az (nbr az x t) = hgt az x → thr az x (nbr az x t) = hgt az x → inS m (nbr az x t)
section SP3
variable {az : Int → Int}
theorem pl_0 (c : Int) : pl az c c := fun _ h _ => h
theorem pl_s {c a b : Int} (h : pl az c a) (hs : step az a b) : pl az c b := fun S h0 h1 => h1 a b (h S h0 h1) hs
theorem pl_h {c j : Int} (h : pl az c j) : hgt az j = hgt az c := h (fun j => hgt az j = hgt az c) rfl (fun _ _ h1 h2 => h2.2.2.1.trans h1)
theorem pl_C {c j : Int} (hc : isC az c) (h : pl az c j) : isC az j := h (isC az) hc (fun _ _ _ h2 => h2.2.1)
theorem isPl_u {c m m' : Int} (h : isPl az c m) (h' : isPl az c m') : m = m' := okS_ext h.1 h'.1 (fun j hj => (h.2 j hj).trans (h'.2 j hj).symm)
theorem or_lt {m b : Int} (hm : okS m) (hb : 0 ≤ b ∧ b < 36) (h : ¬ inS m b) : m < orZ m (2 ^ b.toNat) := by
  have h1 : m.toNat ≤ m.toNat ||| (2 ^ b.toNat : Int).toNat := Nat.left_le_or
  have h2 : m ≠ orZ m (2 ^ b.toNat) := fun e => h (by rw [e, inS_or]; exact Or.inr ((inS_bit hb.1 hb.1).mpr rfl))
  unfold orZ at h2 ⊢
  omega
theorem clo_end (hL : okL az) {c m : Int} (hc : isC az c) (hi : inS m c) (hs : ∀ j, 0 ≤ j ∧ j < 36 → inS m j → pl az c j) (hcl : clo az m (mny az) 0) (hok : okS m) : isPl az c m := by
  refine ⟨hok, fun j hj => ⟨hs j hj, fun h => ?_⟩⟩
  refine (h (fun j => isC az j ∧ inS m j) ⟨hc, hi⟩ (fun a b ha hab => ⟨hab.2.1, ?_⟩)).2
  obtain ⟨h1, h2, h3, h4, t, ht, e⟩ := hab
  have := hcl a t h1.1 ht (Or.inl h1.2) ha.2
  rw [e] at this
  exact this (by omega) h3 h4
/-- the best lower neighbor so far -/
def lbA (az : Int → Int) (a b s : Int) : Int := if nbr az a s ≠ -1 ∧ hgt az (nbr az a s) < hgt az a ∧ thr az a (nbr az a s) = hgt az a ∧ (b = -1 ∨ hgt az (nbr az a s) < hgt az b) then nbr az a s else b
def lbI (az : Int → Int) (a : Int) : Nat → Int
  | 0 => -1
  | s + 1 => lbA az a (lbI az a s) s
/-- the lower neighbor to which the water of a runs, or -1 -/
def lb (az : Int → Int) (a : Int) : Int := lbI az a 4
/-- the first cell's of a plain that has one -/
def wyI (az : Int → Int) (m : Int) : Nat → Nat → Int
  | _, 0 => -1
  | a, n + 1 => if inS m a ∧ lb az a ≠ -1 then lb az a else wyI az m (a + 1) n
def way (az : Int → Int) (m : Int) : Int := wyI az m 0 (mny az).toNat
theorem lbI_s {a s : Int} (hs : 0 ≤ s) : lbI az a (s + 1).toNat = lbA az a (lbI az a s.toNat) s := by
  obtain ⟨n, rfl⟩ := Int.eq_ofNat_of_zero_le hs
  rw [tn_s hs]
  rfl
theorem lbA_r (hL : okL az) {a b s : Int} (ha : isC az a) (hb : b = -1 ∨ (isC az b ∧ hgt az b < hgt az a)) : lbA az a b s = -1 ∨ (isC az (lbA az a b s) ∧ hgt az (lbA az a b s) < hgt az a) := by
  unfold lbA
  split
  · rename_i h
    right
    rcases nbr_r hL ha (s := s) with h1 | h1
    · exact absurd h1 h.1
    · exact ⟨h1, h.2.1⟩
  · exact hb
theorem lbI_r (hL : okL az) {a : Int} (ha : isC az a) : ∀ n : Nat, lbI az a n = -1 ∨ (isC az (lbI az a n) ∧ hgt az (lbI az a n) < hgt az a)
  | 0 => Or.inl rfl
  | n + 1 => lbA_r hL ha (lbI_r hL ha n)
theorem lb_r (hL : okL az) {a : Int} (ha : isC az a) : lb az a = -1 ∨ (isC az (lb az a) ∧ hgt az (lb az a) < hgt az a) := lbI_r hL ha 4
theorem wyI_s {m a k : Int} (ha : 0 ≤ a ∧ a < k) : wyI az m a.toNat (k - a).toNat = if inS m a ∧ lb az a ≠ -1 then lb az a else wyI az m (a + 1).toNat (k - (a + 1)).toNat := by
  obtain ⟨x, rfl⟩ := Int.eq_ofNat_of_zero_le ha.1
  obtain ⟨n, hn⟩ : ∃ n : Nat, (k - x).toNat = n + 1 := ⟨(k - x).toNat - 1, by omega⟩
  rw [hn, show (k - ((x : Int) + 1)).toNat = n by omega, show ((x : Int) + 1).toNat = x + 1 by omega]
  rfl
theorem wyI_r (hL : okL az) {m : Int} : ∀ (n a : Nat), (a + n : Int) ≤ mny az → wyI az m a n = -1 ∨ ∃ x, isC az x ∧ inS m x ∧ isC az (wyI az m a n) ∧ hgt az (wyI az m a n) < hgt az x
  | 0, a, h => Or.inl rfl
  | n + 1, a, h => by
    unfold wyI
    split
    · rename_i h1
      right
      have ha : isC az (a : Int) := ⟨by omega, by omega⟩
      rcases lb_r hL ha with h2 | h2
      · exact absurd h2 h1.2
      · exact ⟨a, ha, h1.1, h2.1, h2.2⟩
    · exact wyI_r hL n (a + 1) (by omega)
theorem way_r (hL : okL az) (m : Int) : way az m = -1 ∨ ∃ x, isC az x ∧ inS m x ∧ isC az (way az m) ∧ hgt az (way az m) < hgt az x := wyI_r hL _ 0 (by have := hL.m; omega)
end SP3
