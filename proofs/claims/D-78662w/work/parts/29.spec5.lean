/-! BASINS: how the model's 'finds' numbers them -/
set_option maxRecDepth 100000
noncomputable def cntP (p : Int → Prop) : Nat → Int
  | 0 => 0
  | n + 1 => cntP p n + @ite Int (p n) (Classical.propDecidable _) 1 0
/-- c is the lowest cell of a pit -/
def isP0 (az : Int → Int) (c : Int) : Prop := endZ az c ≠ 0 ∧ isLow (endZ az c) c
noncomputable def cnt (az : Int → Int) (a : Int) : Int := cntP (isP0 az) a.toNat
def FB (az : Int → Int) (c b z : Int) : Prop := (∃ x, isC az x ∧ x < c ∧ isP0 az x ∧ endZ az b = endZ az x ∧ z = cnt az x) ∨ ((¬ ∃ x, isC az x ∧ x < c ∧ isP0 az x ∧ endZ az b = endZ az x) ∧ z = -1)
def FI (az : Int → Int) (c : Int) (A : Int → Int) : Prop :=
  (∀ j, 0 ≤ j ∧ j < 152 → j ≠ 6 → ¬ (116 ≤ j ∧ j < 116 + mny az) → A j = az j) ∧
  (∀ b, isC az b → FB az c b (A (116 + b))) ∧
  (∀ k, 0 ≤ k ∧ k < 72 → okS (A (152 + k)) ∧ ∀ b, 0 ≤ b ∧ b < 36 → (inS (A (152 + k)) b ↔ isC az b ∧ A (116 + b) = k)) ∧
  (∀ j, 224 ≤ j ∧ j < 440 → A j = 0) ∧ (∀ k, 0 ≤ k ∧ k < 72 → A (440 + k) = if k < cnt az c then 1 else 0) ∧
  okS (A 512) ∧ ∀ b, 0 ≤ b ∧ b < 36 → (inS (A 512) b ↔ ∃ x, isC az x ∧ x < c ∧ isP0 az x ∧ inS (endZ az x) b)
/-- A is az with its basins found, each a lake without water -/
def Found (az A : Int → Int) : Prop := FI az (mny az) A ∧ A 6 = cnt az (mny az)
section SP6
variable {az : Int → Int}
theorem cnt_y {a : Int} (ha : 0 ≤ a) (h : isP0 az a) : cnt az (a + 1) = cnt az a + 1 := by
  obtain ⟨n, rfl⟩ := Int.eq_ofNat_of_zero_le ha
  unfold cnt
  rw [tn_s ha]
  show cntP (isP0 az) n + @ite Int (isP0 az n) (Classical.propDecidable _) 1 0 = _
  rw [if_pos h]
  rfl
theorem cnt_n {a : Int} (ha : 0 ≤ a) (h : ¬ isP0 az a) : cnt az (a + 1) = cnt az a := by
  obtain ⟨n, rfl⟩ := Int.eq_ofNat_of_zero_le ha
  unfold cnt
  rw [tn_s ha]
  show cntP (isP0 az) n + @ite Int (isP0 az n) (Classical.propDecidable _) 1 0 = _
  rw [if_neg h, Int.add_zero]
  rfl
theorem cnt_0 : cnt az 0 = 0 := rfl
theorem cnt_le {a : Int} (ha : 0 ≤ a) : cnt az a ≤ cnt az (a + 1) ∧ cnt az (a + 1) ≤ cnt az a + 1 := by
  by_cases h : isP0 az a
  · rw [cnt_y ha h]; omega
  · rw [cnt_n ha h]; omega
theorem cnt_mono {a : Int} (ha : 0 ≤ a) : ∀ n : Nat, cnt az a ≤ cnt az (a + n)
  | 0 => by simp
  | n + 1 => by
    have h1 := cnt_mono ha n
    have h2 := (cnt_le (az := az) (a := a + n) (by omega)).1
    rw [show a + ((n + 1 : Nat) : Int) = a + n + 1 by omega]
    omega
theorem cnt_m {a b : Int} (ha : 0 ≤ a) (hab : a ≤ b) : cnt az a ≤ cnt az b := by
  have := cnt_mono (az := az) ha (b - a).toNat
  rw [show a + ((b - a).toNat : Int) = b by omega] at this
  exact this
theorem cnt_r0 : ∀ n : Nat, 0 ≤ cnt az n ∧ cnt az n ≤ n
  | 0 => by rw [show ((0 : Nat) : Int) = 0 from rfl, cnt_0]; omega
  | n + 1 => by
    have h1 := cnt_r0 n
    have h2 := cnt_le (az := az) (a := n) (by omega)
    rw [show ((n + 1 : Nat) : Int) = (n : Int) + 1 by omega]
    omega
theorem cnt_r {a : Int} (ha : 0 ≤ a) : 0 ≤ cnt az a ∧ cnt az a ≤ a := by
  have := cnt_r0 (az := az) a.toNat
  rw [Int.toNat_of_nonneg ha] at this
  exact this
theorem cnt_lt {x c : Int} (hx : 0 ≤ x) (hxc : x < c) (h : isP0 az x) : cnt az x < cnt az c := by
  have h1 := cnt_y hx h
  have h2 := cnt_m (az := az) (a := x + 1) (b := c) (by omega) (by omega)
  omega
theorem isLow_u {m a b : Int} (ha : isLow m a) (hb : isLow m b) : a = b := by
  rcases Int.lt_trichotomy a b with h | h | h
  · exact absurd ha.2.1 (hb.2.2 a ⟨ha.1.1, h⟩)
  · exact h
  · exact absurd hb.2.1 (ha.2.2 b ⟨hb.1.1, h⟩)
theorem isP0_u {x c : Int} (hx : isP0 az x) (hc : isP0 az c) (e : endZ az x = endZ az c) : x = c := isLow_u hx.2 (e ▸ hc.2)
theorem FB_no {c b z : Int} (h : FB az c b z) (hc : ¬ isP0 az c) : FB az (c + 1) b z := by
  rcases h with ⟨x, h1, h2, h3, h4, h5⟩ | ⟨h1, h2⟩
  · exact Or.inl ⟨x, h1, by omega, h3, h4, h5⟩
  · refine Or.inr ⟨?_, h2⟩
    rintro ⟨x, g1, g2, g3, g4⟩
    by_cases e : x = c
    · subst e; exact hc g3
    · exact h1 ⟨x, g1, by omega, g3, g4⟩
theorem FI_no {c : Int} {A : Int → Int} (hc0 : 0 ≤ c) (h : FI az c A) (hc : ¬ isP0 az c) : FI az (c + 1) A := by
  obtain ⟨h1, h2, h3, h4, h5, h6, h7⟩ := h
  refine ⟨h1, fun b hb => FB_no (h2 b hb) hc, h3, h4, fun k hk => by rw [cnt_n hc0 hc]; exact h5 k hk, h6, fun b hb => (h7 b hb).trans ⟨?_, ?_⟩⟩
  · rintro ⟨x, g1, g2, g3⟩
    exact ⟨x, g1, by omega, g3⟩
  · rintro ⟨x, g1, g2, g3, g4⟩
    by_cases e : x = c
    · subst e; exact absurd g3 hc
    · exact ⟨x, g1, by omega, g3, g4⟩
/-- the inner loop at b: the pit of c is being numbered -/
def FJ (az : Int → Int) (c b : Int) (A A2 : Int → Int) : Prop :=
  (∀ j, ¬ (116 ≤ j ∧ j < 116 + mny az) → j ≠ 152 + cnt az c → A2 j = A j) ∧
  (∀ x, isC az x → ((x < b ∧ endZ az x = endZ az c ∧ A2 (116 + x) = cnt az c) ∨ (¬ (x < b ∧ endZ az x = endZ az c) ∧ A2 (116 + x) = A (116 + x)))) ∧
  okS (A2 (152 + cnt az c)) ∧ ∀ x, 0 ≤ x ∧ x < 36 → (inS (A2 (152 + cnt az c)) x ↔ isC az x ∧ x < b ∧ endZ az x = endZ az c)
theorem FI_end {c : Int} {A A2 A3 : Int → Int} (hL : okL az) (hc : isC az c) (hp : isP0 az c) (h : FI az c A) (hj : FJ az c (mny az) A A2) (e1 : A3 512 = orZ (A2 512) (endZ az c)) (e2 : A3 (440 + cnt az c) = 1) (e3 : ∀ j, j ≠ 512 → j ≠ 440 + cnt az c → A3 j = A2 j) : FI az (c + 1) A3 := by
  obtain ⟨h1, h2, h3, h4, h5, h6, h7⟩ := h
  obtain ⟨j1, j2, j3, j4⟩ := hj
  have hn := cnt_r (az := az) hc.1
  have hcl := hc.lt hL
  have hm := hL.m
  have hcn := cnt_y hc.1 hp
  have basin : ∀ x, isC az x → A3 (116 + x) = A2 (116 + x) := fun x hx => e3 _ (by have := hx.lt hL; omega) (by have := hx.lt hL; omega)
  have nob : ∀ x, isC az x → endZ az x = endZ az c → A (116 + x) = -1 := by
    intro x hx e
    rcases h2 x hx with ⟨y, g1, g2, g3, g4, g5⟩ | ⟨g1, g2⟩
    · have := isP0_u g3 hp (by rw [← g4, e])
      omega
    · exact g2
  have lown : ∀ x, isC az x → A (116 + x) = -1 ∨ (0 ≤ A (116 + x) ∧ A (116 + x) < cnt az c) := by
    intro x hx
    rcases h2 x hx with ⟨y, g1, g2, g3, g4, g5⟩ | ⟨g1, g2⟩
    · right
      have := cnt_lt g1.1 g2 g3
      have := cnt_r (az := az) g1.1
      omega
    · exact Or.inl g2
  refine ⟨fun j hj hj6 hjn => ?_, fun b hb => ?_, fun k hk => ?_, fun j hj => ?_, fun k hk => ?_, ?_, fun b hb => ?_⟩
  · rw [e3 j (by omega) (by omega), j1 j hjn (by omega)]
    exact h1 j hj hj6 hjn
  · rw [basin b hb]
    rcases j2 b hb with ⟨g1, g2, g3⟩ | ⟨g1, g2⟩
    · exact Or.inl ⟨c, hc, by omega, hp, g2, g3⟩
    · rw [g2]
      have hbn : endZ az b ≠ endZ az c := fun e => g1 ⟨hb.2, e⟩
      rcases h2 b hb with ⟨y, q1, q2, q3, q4, q5⟩ | ⟨q1, q2⟩
      · exact Or.inl ⟨y, q1, by omega, q3, q4, q5⟩
      · refine Or.inr ⟨?_, q2⟩
        rintro ⟨y, q3, q4, q5, q6⟩
        by_cases e : y = c
        · subst e; exact hbn q6
        · exact q1 ⟨y, q3, by omega, q5, q6⟩
  · by_cases ek : k = cnt az c
    · subst ek
      rw [e3 _ (by omega) (by omega)]
      refine ⟨j3, fun b hb => (j4 b hb).trans ⟨?_, ?_⟩⟩
      · rintro ⟨g1, g2, g3⟩
        refine ⟨g1, ?_⟩
        rw [basin b g1]
        rcases j2 b g1 with q | q
        · exact q.2.2
        · exact absurd ⟨g2, g3⟩ q.1
      · rintro ⟨g1, g2⟩
        rw [basin b g1] at g2
        rcases j2 b g1 with q | q
        · exact ⟨g1, q.1, q.2.1⟩
        · have := lown b g1
          omega
    · rw [e3 _ (by omega) (by omega), j1 _ (by omega) (by omega)]
      refine ⟨(h3 k hk).1, fun b hb => ((h3 k hk).2 b hb).trans ⟨?_, ?_⟩⟩
      · rintro ⟨g1, g2⟩
        refine ⟨g1, ?_⟩
        rw [basin b g1]
        rcases j2 b g1 with q | q
        · have := nob b g1 q.2.1
          omega
        · rw [q.2]; exact g2
      · rintro ⟨g1, g2⟩
        refine ⟨g1, ?_⟩
        rw [basin b g1] at g2
        rcases j2 b g1 with q | q
        · omega
        · rw [q.2] at g2; exact g2
  · rw [e3 j (by omega) (by omega), j1 j (by omega) (by omega)]
    exact h4 j hj
  · by_cases ek : k = cnt az c
    · subst ek
      rw [e2, if_pos (by omega)]
    · rw [e3 _ (by omega) (by omega), j1 _ (by omega) (by omega), h5 k hk, hcn]
      by_cases e : k < cnt az c
      · rw [if_pos e, if_pos (by omega)]
      · rw [if_neg e, if_neg (by omega)]
  · rw [e1, j1 512 (by omega) (by omega)]
    exact okS_or h6 (endZ_ok c)
  · rw [e1, j1 512 (by omega) (by omega), inS_or, h7 b hb]
    constructor
    · rintro (⟨x, g1, g2, g3⟩ | g)
      · exact ⟨x, g1, by omega, g3⟩
      · exact ⟨c, hc, by omega, hp, g⟩
    · rintro ⟨x, g1, g2, g3, g4⟩
      by_cases e : x = c
      · subst e; exact Or.inr g4
      · exact Or.inl ⟨x, g1, by omega, g3, g4⟩
theorem FJ_0 {c : Int} {A : Int → Int} (hL : okL az) (hc : isC az c) (h : FI az c A) : FJ az c 0 A A := by
  have hn := cnt_r (az := az) hc.1
  have hcl := hc.lt hL
  have hk := h.2.2.1 (cnt az c) (by omega)
  refine ⟨fun _ _ _ => rfl, fun x hx => Or.inr ⟨fun q => by have := hx.1; omega, rfl⟩, hk.1, fun x hx => (hk.2 x hx).trans ⟨?_, fun q => by omega⟩⟩
  rintro ⟨g1, g2⟩
  rcases h.2.1 x g1 with ⟨y, q1, q2, q3, q4, q5⟩ | ⟨q1, q2⟩
  · have := cnt_lt q1.1 q2 q3
    omega
  · omega
theorem FJ_y {c b : Int} {A A2 A3 : Int → Int} (hL : okL az) (hc : isC az c) (hb : isC az b) (h : FJ az c b A A2) (e : endZ az b = endZ az c) (e1 : A3 (116 + b) = cnt az c) (e2 : A3 (152 + cnt az c) = orZ (A2 (152 + cnt az c)) (2 ^ b.toNat)) (e3 : ∀ j, j ≠ 116 + b → j ≠ 152 + cnt az c → A3 j = A2 j) : FJ az c (b + 1) A A3 := by
  obtain ⟨j1, j2, j3, j4⟩ := h
  have hn := cnt_r (az := az) hc.1
  have hbl := hb.lt hL
  refine ⟨fun j hj1 hj2 => ?_, fun x hx => ?_, ?_, fun x hx => ?_⟩
  · rw [e3 j (by omega) hj2]
    exact j1 j hj1 hj2
  · have hxl := hx.lt hL
    by_cases ex : x = b
    · subst ex
      exact Or.inl ⟨by omega, e, e1⟩
    · rw [e3 (116 + x) (by omega) (by omega)]
      rcases j2 x hx with g | g
      · exact Or.inl ⟨by omega, g.2⟩
      · exact Or.inr ⟨fun q => g.1 ⟨by omega, q.2⟩, g.2⟩
  · rw [e2]
    exact okS_or j3 (okS_bit hbl)
  · rw [e2, inS_or, j4 x hx, inS_bit hbl.1 hx.1]
    constructor
    · rintro (g | g)
      · exact ⟨g.1, by omega, g.2.2⟩
      · subst g; exact ⟨hb, by omega, e⟩
    · rintro ⟨g1, g2, g3⟩
      by_cases ex : x = b
      · exact Or.inr ex
      · exact Or.inl ⟨g1, by omega, g3⟩
theorem FJ_n {c b : Int} {A A2 A3 : Int → Int} (hb : isC az b) (h : FJ az c b A A2) (e : endZ az b ≠ endZ az c) (e3 : ∀ j, A3 j = A2 j) : FJ az c (b + 1) A A3 := by
  obtain ⟨j1, j2, j3, j4⟩ := h
  refine ⟨fun j hj1 hj2 => by rw [e3]; exact j1 j hj1 hj2, fun x hx => ?_, by rw [e3]; exact j3, fun x hx => ?_⟩
  · rw [e3]
    rcases j2 x hx with g | g
    · exact Or.inl ⟨by omega, g.2⟩
    · refine Or.inr ⟨fun q => ?_, g.2⟩
      by_cases ex : x = b
      · subst ex; exact e q.2
      · exact g.1 ⟨by omega, q.2⟩
  · rw [e3, j4 x hx]
    constructor
    · rintro ⟨g1, g2, g3⟩
      exact ⟨g1, by omega, g3⟩
    · rintro ⟨g1, g2, g3⟩
      by_cases ex : x = b
      · subst ex; exact absurd g3 e
      · exact ⟨g1, by omega, g3⟩
theorem Found.same {A : Int → Int} (hL : okL az) (h : Found az A) : sameL az A := by
  have hm := hL.m
  exact ⟨h.1.1 0 (by omega) (by omega) (by omega), h.1.1 1 (by omega) (by omega) (by omega), h.1.1 2 (by omega) (by omega) (by omega), fun k hk => h.1.1 k (by omega) (by omega) (by omega)⟩
theorem Found.okK {A : Int → Int} (h : Found az A) : okK A := by
  obtain ⟨⟨h1, h2, h3, h4, h5, h6, h7⟩, -⟩ := h
  refine ⟨fun k hk => ⟨(h3 k hk).1, ?_, ?_, ?_, ?_⟩, h6⟩
  · rw [h4 (224 + k) (by omega)]; omega
  · rw [h4 (296 + k) (by omega)]; omega
  · rw [h4 (368 + k) (by omega)]; omega
  · rw [h5 k hk]
    split
    · exact Or.inr rfl
    · exact Or.inl rfl
end SP6
