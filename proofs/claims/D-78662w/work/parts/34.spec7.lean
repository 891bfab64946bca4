/-! THE TEXT: T its signs, n their number -/
set_option maxRecDepth 100000
def fig (T : Int → Int) (n p : Int) : Prop := p < n ∧ 48 ≤ T p ∧ T p ≤ 57
/-- the text is in range, the place is in it -/
def okX (M : Nat → Int → Int) : Prop := (0 ≤ M 21 0 ∧ M 21 0 ≤ 150) ∧ (∀ j, 0 ≤ j ∧ j < 150 → 0 ≤ M 20 j ∧ M 20 j ≤ 127) ∧ (0 ≤ M 22 0 ∧ M 22 0 ≤ M 21 0)
/-- what is read as a number from p: behind it, its value, whether it is one -/
def nuP (T : Int → Int) (n p e v : Int) (ok : Prop) : Prop :=
  (¬ fig T n p ∧ e = p ∧ v = 0 ∧ ¬ ok) ∨ (fig T n p ∧ ¬ fig T n (p + 1) ∧ e = p + 1 ∧ v = T p - 48 ∧ ok) ∨ (fig T n p ∧ fig T n (p + 1) ∧ ¬ fig T n (p + 2) ∧ e = p + 2 ∧ v = 10 * (T p - 48) + (T (p + 1) - 48) ∧ ok) ∨ (fig T n p ∧ fig T n (p + 1) ∧ fig T n (p + 2) ∧ e = p + 2 ∧ v = 10 * (T p - 48) + (T (p + 1) - 48) ∧ ¬ ok)
theorem nuP.r {T : Int → Int} {n p e v : Int} {ok : Prop} (h : nuP T n p e v ok) (hp : p ≤ n) : (p ≤ e ∧ e ≤ n) ∧ (0 ≤ v ∧ v ≤ 99) := by
  unfold nuP fig at h
  rcases h with ⟨h1, h2, h3, h4⟩ | ⟨h1, h2, h3, h4, h5⟩ | ⟨h1, h2, h3, h4, h5, h6⟩ | ⟨h1, h2, h3, h4, h5, h6⟩ <;> omega
/-- a side of the land at p -/
def szP (T : Int → Int) (n p : Int) : Prop := p < n ∧ 49 ≤ T p ∧ T p ≤ 54
/-- the sign c stands at p -/
def cpP (T : Int → Int) (n p c : Int) : Prop := p < n ∧ T p = c
/-- a cell is read at p, a neighbor of 'f' if f isn't -1 -/
def cellP (az T : Int → Int) (n p f z e v : Int) : Prop := ∃ (e1 : Int) (q : Prop), nuP T n p e1 v q ∧ ((¬ q ∧ z = 0 ∧ e = e1) ∨ (q ∧ (isC az v ∧ (f = -1 ∨ isNb az f v)) ∧ z = 1 ∧ e = e1) ∨ (q ∧ ¬ (isC az v ∧ (f = -1 ∨ isNb az f v)) ∧ z = 0 ∧ e = p))
theorem cellP.r {az T : Int → Int} {n p f z e v : Int} (h : cellP az T n p f z e v) (hp : p ≤ n) : (p ≤ e ∧ e ≤ n) ∧ (0 ≤ v ∧ v ≤ 99) ∧ (z = 0 ∨ z = 1) := by
  obtain ⟨e1, q, h1, h2⟩ := h
  have := h1.r hp
  rcases h2 with ⟨_, _, _⟩ | ⟨_, _, _, _⟩ | ⟨_, _, _, _⟩ <;> omega
theorem cellP.c {az T : Int → Int} {n p f z e v : Int} (h : cellP az T n p f z e v) (hz : z = 1) : isC az v ∧ (f = -1 ∨ isNb az f v) := by
  obtain ⟨e1, q, h1, h2⟩ := h
  rcases h2 with ⟨_, _, _⟩ | ⟨_, h3, _, _⟩ | ⟨_, _, _, _⟩
  · omega
  · exact h3
  · omega
/-- a gate is read at p -/
def gateP (az T : Int → Int) (n p z e : Int) (az' : Int → Int) : Prop :=
  ∃ z1 e1 a, cellP az T n p (-1) z1 e1 a ∧ ((z1 = 0 ∧ z = 0 ∧ e = e1) ∨ (z1 = 1 ∧ ¬ cpP T n e1 44 ∧ z = 0 ∧ e = e1) ∨ (z1 = 1 ∧ cpP T n e1 44 ∧
    ∃ z2 e2 b, cellP az T n (e1 + 1) a z2 e2 b ∧ ((z2 = 0 ∧ z = 0 ∧ e = e2) ∨ (z2 = 1 ∧ ¬ cpP T n e2 44 ∧ z = 0 ∧ e = e2) ∨ (z2 = 1 ∧ cpP T n e2 44 ∧
      ∃ e3 v q, nuP T n (e2 + 1) e3 v q ∧ ((¬ q ∧ z = 0 ∧ e = e3) ∨ (q ∧ z = 1 ∧ e = e3 ∧ az' = fup az (gat az a b) v))))))
/-- a drain is read at p -/
def drainP (az T : Int → Int) (n p z e : Int) (az' : Int → Int) : Prop := ∃ v, cellP az T n p (-1) z e v ∧ (z = 1 → az' = fup az 2 (orZ (az 2) (2 ^ v.toNat)))
/-- the heights of k cells from c on are read at p -/
def hsP (T : Int → Int) (n : Int) : Nat → (Int → Int) → Int → Int → Int → Int → (Int → Int) → Prop
  | 0, az, _, p, z, e, az' => z = 1 ∧ e = p ∧ az' = az
  | k + 1, az, c, p, z, e, az' => (0 < c ∧ ¬ cpP T n p 44 ∧ z = 0 ∧ e = p) ∨ ((c = 0 ∨ cpP T n p 44) ∧ ∃ e1 v q, nuP T n (if c = 0 then p else p + 1) e1 v q ∧ ((¬ q ∧ z = 0 ∧ e = e1) ∨ (q ∧ hsP T n k (fup az (8 + c) v) (c + 1) e1 z e az')))
/-- items are read from p on (k: at least as many as can come) -/
def itP (T : Int → Int) (n : Int) : Nat → (Int → Int) → Int → Int → Int → (Int → Int) → Prop
  | 0, _, _, _, _, _ => False
  | k + 1, az, p, z, e, az' => (n ≤ p ∧ z = 1 ∧ e = p ∧ az' = az) ∨ (p < n ∧ ¬ cpP T n p 59 ∧ z = 0 ∧ e = p) ∨
    (cpP T n p 59 ∧ cpP T n (p + 1) 100 ∧ ∃ z1 e1 az1, drainP az T n (p + 2) z1 e1 az1 ∧ ((z1 = 0 ∧ z = 0 ∧ e = e1) ∨ (z1 = 1 ∧ itP T n k az1 e1 z e az'))) ∨
    (cpP T n p 59 ∧ ¬ cpP T n (p + 1) 100 ∧ ¬ cpP T n (p + 1) 103 ∧ z = 0 ∧ e = p + 1) ∨
    (cpP T n p 59 ∧ ¬ cpP T n (p + 1) 100 ∧ cpP T n (p + 1) 103 ∧ ∃ z1 e1 az1, gateP az T n (p + 2) z1 e1 az1 ∧ ((z1 = 0 ∧ z = 0 ∧ e = e1) ∨ (z1 = 1 ∧ itP T n k az1 e1 z e az')))
/-- the whole text is read; where it's right it gives a land like az' -/
def readP (T : Int → Int) (n z e : Int) (az' : Int → Int) : Prop :=
  (¬ szP T n 0 ∧ z = 0 ∧ e = 0) ∨ (szP T n 0 ∧ ¬ szP T n 1 ∧ z = 0 ∧ e = 1) ∨ (szP T n 0 ∧ szP T n 1 ∧ ¬ cpP T n 2 58 ∧ z = 0 ∧ e = 2) ∨
  (szP T n 0 ∧ szP T n 1 ∧ cpP T n 2 58 ∧ ∃ az0 A0 z1 e1 az1, bareL az0 (T 0 - 48) (T 1 - 48) ∧ Found az0 A0 ∧ hsP T n ((T 0 - 48) * (T 1 - 48)).toNat A0 0 3 z1 e1 az1 ∧ ((z1 = 0 ∧ z = 0 ∧ e = e1) ∨ (z1 = 1 ∧ itP T n 200 az1 e1 z e az')))
theorem okL.put_h {az : Int → Int} (hL : okL az) {c v : Int} (hc : 0 ≤ c ∧ c < 36) (hv : 0 ≤ v ∧ v ≤ 99) : okL (fup az (8 + c) v) := by
  obtain ⟨h1, h2, h3, h4, h5⟩ := hL
  refine ⟨by rw [fup_n _ _ (by omega)]; exact h1, by rw [fup_n _ _ (by omega)]; exact h2, fun x hx => ?_, fun k hk => ?_, by rw [fup_n _ _ (by omega)]; exact h5⟩
  · by_cases e : 8 + x = 8 + c
    · rw [e, fup_s]; exact hv
    · rw [fup_n _ _ e]; exact h3 x hx
  · rw [fup_n _ _ (by omega)]; exact h4 k hk
theorem okL.put_g {az : Int → Int} (hL : okL az) {k v : Int} (hk : 44 ≤ k ∧ k < 116) (hv : -1 ≤ v ∧ v ≤ 99) : okL (fup az k v) := by
  obtain ⟨h1, h2, h3, h4, h5⟩ := hL
  refine ⟨by rw [fup_n _ _ (by omega)]; exact h1, by rw [fup_n _ _ (by omega)]; exact h2, fun x hx => ?_, fun j hj => ?_, by rw [fup_n _ _ (by omega)]; exact h5⟩
  · rw [fup_n _ _ (by omega)]; exact h3 x hx
  · by_cases e : j = k
    · rw [e, fup_s]; exact hv
    · rw [fup_n _ _ e]; exact h4 j hj
theorem okL.put_d {az : Int → Int} (hL : okL az) {v : Int} (hv : okS v) : okL (fup az 2 v) := by
  obtain ⟨h1, h2, h3, h4, h5⟩ := hL
  refine ⟨by rw [fup_n _ _ (by omega)]; exact h1, by rw [fup_n _ _ (by omega)]; exact h2, fun x hx => ?_, fun j hj => ?_, by rw [fup_s]; exact hv⟩
  · rw [fup_n _ _ (by omega)]; exact h3 x hx
  · rw [fup_n _ _ (by omega)]; exact h4 j hj
theorem okX.to {M M' : Nat → Int → Int} (h : okX M) (hf : fr [0, 5, 22, 23] M M') (hp : 0 ≤ M' 22 0 ∧ M' 22 0 ≤ M 21 0) : okX M' := by
  obtain ⟨h1, h2, h3⟩ := h
  refine ⟨by rw [hf 21 (by decide)]; exact h1, by rw [hf 20 (by decide)]; exact h2, by rw [hf 21 (by decide)]; exact hp⟩
/-- the text is in range -/
def okX0 (M : Nat → Int → Int) : Prop := (0 ≤ M 21 0 ∧ M 21 0 ≤ 150) ∧ ∀ j, 0 ≤ j ∧ j < 150 → 0 ≤ M 20 j ∧ M 20 j ≤ 127
theorem okX0.to {M M' : Nat → Int → Int} (h : okX0 M) (hf : fr [0, 5, 22, 23] M M') (hp : 0 ≤ M' 22 0 ∧ M' 22 0 ≤ M 21 0) : okX M' := by
  obtain ⟨h1, h2⟩ := h
  refine ⟨by rw [hf 21 (by decide)]; exact h1, by rw [hf 20 (by decide)]; exact h2, by rw [hf 21 (by decide)]; exact hp⟩
