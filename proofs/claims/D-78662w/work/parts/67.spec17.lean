/-! WET CELLS: by the water that is needed up to their height -/
set_option maxRecDepth 100000
section SP17
variable {az : Int → Int}
theorem capS_ge {m p w : Int} : ∀ n : Nat, p * bl az m w n - hs az m w n ≤ capS az m p n
  | 0 => by unfold bl hs capS; omega
  | n + 1 => by
    have ih := capS_ge (m := m) (p := p) (w := w) n
    unfold bl hs capS
    by_cases a : inS m n ∧ hgt az n < w
    · have a2 := a.2
      rw [if_pos a, if_pos a, Int.mul_add]
      by_cases b : hgt az n < p
      · rw [if_pos ⟨a.1, b⟩]; omega
      · rw [if_neg (fun q => b q.2)]; omega
    · rw [if_neg a, if_neg a, Int.add_zero, Int.add_zero]
      split <;> omega
theorem capS_e1 {m p : Int} : ∀ n : Nat, capS az m p n = p * bl az m (p + 1) n - hs az m (p + 1) n
  | 0 => by unfold bl hs capS; omega
  | n + 1 => by
    have ih := capS_e1 (m := m) (p := p) n
    unfold bl hs capS
    by_cases a : inS m n ∧ hgt az n < p + 1
    · rw [if_pos a, if_pos a, Int.mul_add]
      by_cases b : hgt az n < p
      · rw [if_pos ⟨a.1, b⟩]; omega
      · rw [if_neg (fun q => b q.2)]; have := a.2; omega
    · rw [if_neg a, if_neg a, Int.add_zero, Int.add_zero, if_neg (fun q => a ⟨q.1, by omega⟩)]
      omega
theorem capS_e0 {m p : Int} : ∀ n : Nat, capS az m p n = p * bl az m p n - hs az m p n
  | 0 => by unfold bl hs capS; omega
  | n + 1 => by
    have ih := capS_e0 (m := m) (p := p) n
    unfold bl hs capS
    by_cases a : inS m n ∧ hgt az n < p
    · rw [if_pos a, if_pos a, if_pos a, Int.mul_add]; omega
    · rw [if_neg a, if_neg a, if_neg a, Int.add_zero, Int.add_zero]; omega
theorem capS_mono {m p p' : Int} (h : p ≤ p') : ∀ n : Nat, capS az m p n ≤ capS az m p' n
  | 0 => by unfold capS; omega
  | n + 1 => by
    have ih := capS_mono (m := m) h n
    unfold capS
    by_cases a : inS m n ∧ hgt az n < p
    · rw [if_pos a, if_pos ⟨a.1, by have := a.2; omega⟩]; omega
    · rw [if_neg a]; split <;> omega
theorem capS_lt {m p p' c : Int} (h : p < p') (hi : inS m c) (hh : hgt az c ≤ p) : ∀ n : Nat, 0 ≤ c ∧ c < n → capS az m p n < capS az m p' n
  | 0, q => by omega
  | n + 1, q => by
    unfold capS
    by_cases e : c = n
    · have ih := capS_mono (az := az) (m := m) (show p ≤ p' by omega) n
      rw [e] at hi hh
      rw [if_pos (show inS m n ∧ hgt az n < p' from ⟨hi, by omega⟩)]
      split <;> omega
    · have ih := capS_lt h hi hh n (by omega)
      by_cases a : inS m n ∧ hgt az n < p
      · rw [if_pos a, if_pos ⟨a.1, by have := a.2; omega⟩]; omega
      · rw [if_neg a]; split <;> omega
/-- the water that is needed up to the height p -/
def ndZ (az : Int → Int) (m p : Int) : Int := capS az m p (mny az).toNat
theorem LV_cap (hL : okL az) {m vol S B c : Int} (hl : LV az m vol S B) (hv : 0 ≤ vol) (hc : isC az c) (hi : inS m c) : B * hgt az c < S ↔ ndZ az m (hgt az c) < vol := by
  obtain ⟨v, v1, v2, v3, v4, v5⟩ := hl
  have hh := hL.hg (hc.lt hL)
  have hcn : 0 ≤ c ∧ c < ((mny az).toNat : Int) := by have := hc.1; have := hc.2; omega
  have e1 : ndZ az m v = v * B - hsZ az m (v + 1) := by rw [v3]; exact capS_e1 _
  have e2 : ndZ az m (v + 1) = (v + 1) * B - hsZ az m (v + 1) := by rw [v3]; exact capS_e0 _
  have e3 : hgt az c * B - hsZ az m (v + 1) ≤ ndZ az m (hgt az c) := by rw [v3]; exact capS_ge _
  have low : ndZ az m v ≤ vol := by
    by_cases z : v = 0
    · have h1 := bl_0 hL (m := m) (mny az).toNat (by have := hL.m; omega)
      have h2 : ndZ az m 0 = 0 * bl az m 0 (mny az).toNat - hs az m 0 (mny az).toNat := capS_e0 _
      rw [z, h2, h1.1, h1.2]
      omega
    · have h1 := v5 (v - 1) (by omega)
      have h2 : ndZ az m v = v * blZ az m v - hsZ az m v := capS_e0 _
      have h3 := blZ_r hL (m := m) (v := v)
      by_cases b0 : blZ az m v = 0
      · rw [h2, b0]; omega
      · by_cases b1 : vol + hsZ az m v ≤ blZ az m v * v
        · exfalso
          refine h1 ⟨by rw [show v - 1 + 1 = v by omega]; omega, Or.inr (by rw [show v - 1 + 1 = v by omega]; exact b1)⟩
        · rw [h2, Int.mul_comm]; omega
  rw [Int.mul_comm B]
  rcases Int.lt_trichotomy (hgt az c) v with q | q | q
  · have h1 := capS_lt (az := az) (m := m) q hi (Int.le_refl _) (mny az).toNat hcn
    have h2 : ndZ az m (hgt az c) < ndZ az m v := h1
    constructor
    · intro _; omega
    · intro _; omega
  · rw [q, e1]
    constructor
    · intro _; omega
    · intro _; omega
  · have h9 : ¬ ∀ c, isC az c → inS m c → hgt az c ≤ v := fun f => by have := f c hc hi; omega
    have h8 := v4.2.resolve_left h9
    have h7 := capS_mono (az := az) (m := m) (show v + 1 ≤ hgt az c by omega) (mny az).toNat
    have h6 : ndZ az m (v + 1) ≤ ndZ az m (hgt az c) := h7
    have h8 : S ≤ (v + 1) * B := by rw [v2, v3, Int.mul_comm (v + 1)]; exact h8
    have h5 : (v + 1) * B ≤ hgt az c * B := Int.mul_le_mul_of_nonneg_right (by omega) (by have := blZ_r hL (m := m) (v := v + 1); omega)
    constructor
    · intro _; omega
    · intro _; omega
/-- a cell of a lake is wet if the water up to its height is less than the lake's -/
theorem wet_cap (hA : okA az) {c : Int} (hc : isC az c) : wetP az c ↔ lakeZ az c ≠ -1 ∧ ndZ az (az (152 + lakeZ az c)) (hgt az c) < az (224 + lakeZ az c) := by
  constructor
  · rintro ⟨h1, S, B, h2, h3⟩
    have hk := (lakeZ_p (az := az) c).resolve_left h1
    exact ⟨h1, (LV_cap hA.L h2 (hA.v _ hk.1) hc hk.2.2).mp h3⟩
  · rintro ⟨h1, h2⟩
    have hk := (lakeZ_p (az := az) c).resolve_left h1
    obtain ⟨S, B, hl⟩ := isK.LV hA (k := lakeZ az c) ⟨hk.1, hk.2.1⟩
    exact ⟨h1, S, B, hl, (LV_cap hA.L hl (hA.v _ hk.1) hc hk.2.2).mpr h2⟩
end SP17
