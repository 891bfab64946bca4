/-! LEVELS, ORDER, COUNTS -/
set_option maxRecDepth 100000
theorem cntP_y {p : Int → Prop} {c : Int} (hc : 0 ≤ c) (h : p c) : cntP p (c + 1).toNat = cntP p c.toNat + 1 := by
  obtain ⟨n, rfl⟩ := Int.eq_ofNat_of_zero_le hc
  rw [tn_s hc]
  show cntP p n + @ite Int (p n) (Classical.propDecidable _) 1 0 = _
  rw [if_pos h]
  rfl
theorem cntP_n {p : Int → Prop} {c : Int} (hc : 0 ≤ c) (h : ¬ p c) : cntP p (c + 1).toNat = cntP p c.toNat := by
  obtain ⟨n, rfl⟩ := Int.eq_ofNat_of_zero_le hc
  rw [tn_s hc]
  show cntP p n + @ite Int (p n) (Classical.propDecidable _) 1 0 = _
  rw [if_neg h, Int.add_zero]
  rfl
theorem cntP_r (p : Int → Prop) : ∀ n : Nat, 0 ≤ cntP p n ∧ cntP p n ≤ n
  | 0 => by unfold cntP; omega
  | n + 1 => by
    have h1 := cntP_r p n
    by_cases h : p n
    · have := cntP_y (p := p) (c := n) (by omega) h
      rw [tn_s (by omega), Int.toNat_natCast] at this
      omega
    · have := cntP_n (p := p) (c := n) (by omega) h
      rw [tn_s (by omega), Int.toNat_natCast] at this
      omega
theorem cntP_e {p q : Int → Prop} : ∀ n : Nat, (∀ c : Int, 0 ≤ c ∧ c < n → (p c ↔ q c)) → cntP p n = cntP q n
  | 0, _ => rfl
  | n + 1, h => by
    have h1 := cntP_e (p := p) (q := q) n (fun c hc => h c (by omega))
    have h2 := h n (by omega)
    by_cases e : p n
    · have a := cntP_y (p := p) (c := n) (by omega) e
      have b := cntP_y (p := q) (c := n) (by omega) (h2.mp e)
      rw [tn_s (by omega), Int.toNat_natCast] at a b
      omega
    · have a := cntP_n (p := p) (c := n) (by omega) e
      have b := cntP_n (p := q) (c := n) (by omega) (fun q => e (h2.mpr q))
      rw [tn_s (by omega), Int.toNat_natCast] at a b
      omega
theorem cntP_lt {p : Int → Prop} {a b : Int} (ha : 0 ≤ a) (hab : a < b) (h : p a) : cntP p a.toNat < cntP p b.toNat := by
  have key : ∀ n : Nat, cntP p (a + 1).toNat ≤ cntP p (a + 1 + n).toNat := by
    intro n
    induction n with
    | zero => simp
    | succ n ih =>
      rw [show a + 1 + ((n + 1 : Nat) : Int) = a + 1 + n + 1 by omega]
      by_cases e : p (a + 1 + n)
      · rw [cntP_y (by omega) e]; omega
      · rw [cntP_n (by omega) e]; exact ih
  have h1 := cntP_y ha h
  have h2 := key (b - (a + 1)).toNat
  rw [show a + 1 + ((b - (a + 1)).toNat : Int) = b by omega] at h2
  omega
/-- c is the lowest cell of a lake -/
def isF (az : Int → Int) (c : Int) : Prop := lakeZ az c ≠ -1 ∧ isLow (az (152 + lakeZ az c)) c
/-- how many lakes -/
noncomputable def nL (az : Int → Int) : Int := cntP (isF az) (mny az).toNat
/-- the lakes in order are in the array M11, their number is n -/
def isOrd (az : Int → Int) (f : Int → Int) (c : Int) : Prop := ∀ x, isC az x → x < c → isF az x → f (cntP (isF az) x.toNat) = lakeZ az x
def bl (az : Int → Int) (m v : Int) : Nat → Int
  | 0 => 0
  | n + 1 => bl az m v n + (if inS m n ∧ hgt az n < v then 1 else 0)
def hs (az : Int → Int) (m v : Int) : Nat → Int
  | 0 => 0
  | n + 1 => hs az m v n + (if inS m n ∧ hgt az n < v then hgt az n else 0)
/-- how many cells of m are lower than v; the sum of their heights -/
def blZ (az : Int → Int) (m v : Int) : Int := bl az m v (mny az).toNat
def hsZ (az : Int → Int) (m v : Int) : Int := hs az m v (mny az).toNat
/-- the level's search can end at the height v -/
def lvD (az : Int → Int) (m vol v : Int) : Prop := 0 < blZ az m (v + 1) ∧ ((∀ c, isC az c → inS m c → hgt az c ≤ v) ∨ vol + hsZ az m (v + 1) ≤ blZ az m (v + 1) * (v + 1))
/-- the level of the cells m with the water vol is S over B -/
def LV (az : Int → Int) (m vol S B : Int) : Prop := ∃ v, (0 ≤ v ∧ v < 100) ∧ S = vol + hsZ az m (v + 1) ∧ B = blZ az m (v + 1) ∧ lvD az m vol v ∧ ∀ u, 0 ≤ u ∧ u < v → ¬ lvD az m vol u
def wetP (az : Int → Int) (c : Int) : Prop := lakeZ az c ≠ -1 ∧ ∃ S B, LV az (az (152 + lakeZ az c)) (az (224 + lakeZ az c)) S B ∧ B * hgt az c < S
noncomputable def wetZ (az : Int → Int) (m : Int) : Int := cntP (fun c => inS m c ∧ wetP az c) (mny az).toNat
/-- every lake that is there has cells, and these are cells of the land -/
def okT (az : Int → Int) : Prop := ∀ k, 0 ≤ k ∧ k < 72 → az (440 + k) = 1 → (∃ c, isC az c ∧ inS (az (152 + k)) c) ∧ ∀ c, inS (az (152 + k)) c → 0 ≤ c → isC az c
section SP7
variable {az : Int → Int}
theorem lk_in {c : Int} : ∀ n : Nat, lk az c n ≠ -1 → az (440 + lk az c n) = 1 ∧ inS (az (152 + lk az c n)) c
  | 0, h => absurd rfl h
  | n + 1, h => by
    unfold lk at h ⊢
    split
    · assumption
    · rename_i h1
      rw [if_neg h1] at h
      exact lk_in n h
theorem lakeZ_in {c : Int} (h : lakeZ az c ≠ -1) : az (440 + lakeZ az c) = 1 ∧ inS (az (152 + lakeZ az c)) c := lk_in 72 h
theorem bl_s {m v c : Int} (hc : 0 ≤ c) : bl az m v (c + 1).toNat = bl az m v c.toNat + (if inS m c ∧ hgt az c < v then 1 else 0) := by
  obtain ⟨n, rfl⟩ := Int.eq_ofNat_of_zero_le hc
  rw [tn_s hc]
  rfl
theorem hs_s {m v c : Int} (hc : 0 ≤ c) : hs az m v (c + 1).toNat = hs az m v c.toNat + (if inS m c ∧ hgt az c < v then hgt az c else 0) := by
  obtain ⟨n, rfl⟩ := Int.eq_ofNat_of_zero_le hc
  rw [tn_s hc]
  rfl
theorem bl_r (hL : okL az) {m v : Int} : ∀ n : Nat, n ≤ 36 → (0 ≤ bl az m v n ∧ bl az m v n ≤ n) ∧ (0 ≤ hs az m v n ∧ hs az m v n ≤ 99 * n)
  | 0, _ => by unfold bl hs; omega
  | n + 1, h => by
    have ih := bl_r hL (m := m) (v := v) n (by omega)
    have hh := hL.hg (c := n) (by omega)
    unfold bl hs
    split <;> omega
theorem bl_0 (hL : okL az) {m : Int} : ∀ n : Nat, n ≤ 36 → bl az m 0 n = 0 ∧ hs az m 0 n = 0
  | 0, _ => ⟨rfl, rfl⟩
  | n + 1, h => by
    have ih := bl_0 hL (m := m) n (by omega)
    have hh := hL.hg (c := n) (by omega)
    unfold bl hs
    rw [if_neg (by omega), if_neg (by omega)]
    omega
theorem blZ_r (hL : okL az) {m v : Int} : (0 ≤ blZ az m v ∧ blZ az m v ≤ 36) ∧ (0 ≤ hsZ az m v ∧ hsZ az m v ≤ 3564) := by
  have h1 := hL.m
  have := bl_r hL (m := m) (v := v) (mny az).toNat (by omega)
  unfold blZ hsZ
  omega
theorem bl_in (hL : okL az) {m v c : Int} (hc : inS m c) (hv : hgt az c < v) : ∀ n : Nat, 0 ≤ c → c < n → n ≤ 36 → 0 < bl az m v n
  | 0, h1, h2, _ => by omega
  | n + 1, h1, h2, h3 => by
    unfold bl
    by_cases e : c = n
    · subst e
      have := (bl_r hL (m := m) (v := v) n (by omega)).1
      rw [if_pos ⟨hc, hv⟩]
      omega
    · have := bl_in hL hc hv n h1 (by omega) (by omega)
      split <;> omega
theorem blZ_in (hL : okL az) {m v c : Int} (hC : isC az c) (hc : inS m c) (hv : hgt az c < v) : 0 < blZ az m v := by
  have h1 := hL.m
  exact bl_in hL hc hv _ hC.1 (by have := hC.2; omega) (by omega)
theorem LV_u {m vol S B S' B' : Int} (h : LV az m vol S B) (h' : LV az m vol S' B') : S = S' ∧ B = B' := by
  obtain ⟨v, h1, h2, h3, h4, h5⟩ := h
  obtain ⟨v', g1, g2, g3, g4, g5⟩ := h'
  have e : v = v' := by
    rcases Int.lt_trichotomy v v' with q | q | q
    · exact absurd h4 (g5 v ⟨h1.1, q⟩)
    · exact q
    · exact absurd g4 (h5 v' ⟨g1.1, q⟩)
  subst e
  exact ⟨h2.trans g2.symm, h3.trans g3.symm⟩
theorem LV_r (hL : okL az) {m vol S B : Int} (h : LV az m vol S B) (hv : 0 ≤ vol ∧ vol ≤ 4000000) : (0 ≤ S ∧ S ≤ 4003564) ∧ (0 < B ∧ B ≤ 36) := by
  obtain ⟨v, h1, h2, h3, h4, h5⟩ := h
  have := blZ_r hL (m := m) (v := v + 1)
  have := h4.1
  omega
theorem wetP_LV {c S B : Int} (h : lakeZ az c ≠ -1) (h2 : LV az (az (152 + lakeZ az c)) (az (224 + lakeZ az c)) S B) : wetP az c ↔ B * hgt az c < S := by
  constructor
  · rintro ⟨_, S', B', g1, g2⟩
    obtain ⟨rfl, rfl⟩ := LV_u h2 g1
    exact g2
  · exact fun q => ⟨h, S, B, h2, q⟩
theorem isF_lt (hL : okL az) {c : Int} (hc : isC az c) (h : isF az c) : 0 ≤ cntP (isF az) c.toNat ∧ cntP (isF az) c.toNat < nL az := by
  refine ⟨(cntP_r _ _).1, ?_⟩
  exact cntP_lt hc.1 hc.2 h
theorem nL_r (hL : okL az) : 0 ≤ nL az ∧ nL az ≤ 36 := by
  have h1 := hL.m
  have := cntP_r (isF az) (mny az).toNat
  unfold nL
  omega
end SP7
/-- the saved states -/
def svF (f az : Int → Int) (n : Int) : Int → Int := fun j => if 513 * n ≤ j ∧ j < 513 * (n + 1) then az (j - 513 * n) else f j
def shF (f : Int → Int) : Int → Int := fun j => if 0 ≤ j ∧ j < 1539 then f (j + 513) else f j
/-- the state behind 'save' -/
def saveM (M : Nat → Int → Int) : Nat → Int → Int := if M 3 0 = 4 then mA (mA M 1 (svF (shF (M 1)) (M 0) 3)) 3 (fun _ => 4) else mA (mA M 1 (svF (M 1) (M 0) (M 3 0))) 3 (fun _ => M 3 0 + 1)
/-- a bare land of w times h cells -/
def bareL (az : Int → Int) (w h : Int) : Prop := az 0 = w ∧ az 1 = h ∧ (∀ k, 44 ≤ k ∧ k < 116 → az k = -1) ∧ ∀ k, 2 ≤ k ∧ k < 513 → ¬ (44 ≤ k ∧ k < 116) → az k = 0
theorem bareL.ok {az : Int → Int} {w h : Int} (b : bareL az w h) (hw : 1 ≤ w ∧ w ≤ 6) (hh : 1 ≤ h ∧ h ≤ 6) : okL az := by
  obtain ⟨h1, h2, h3, h4⟩ := b
  refine ⟨by omega, by omega, fun c hc => ?_, fun k hk => ?_, ?_⟩
  · rw [h4 (8 + c) (by omega) (by omega)]; omega
  · rw [h3 k hk]; omega
  · rw [h4 2 (by omega) (by omega)]; exact okS_0
