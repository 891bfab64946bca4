/-! BASINS AS LAKES; LAKES IN ORDER; WATER POURED AGAIN -/
set_option maxRecDepth 100000
section SP13
variable {az az' : Int → Int}
theorem cntP_x {p : Int → Prop} : ∀ (N : Nat) (n : Int), 0 ≤ n → n < cntP p N → ∃ x : Int, 0 ≤ x ∧ x < N ∧ p x ∧ cntP p x.toNat = n
  | 0, n, h0, h => by
    have : cntP p 0 = 0 := rfl
    omega
  | N + 1, n, h0, h => by
    by_cases e : p N
    · have h1 := cntP_y (p := p) (c := N) (by omega) e
      rw [tn_s (by omega)] at h1
      have h2 : ((N : Int)).toNat = N := by omega
      rw [h2] at h1
      by_cases e2 : n = cntP p N
      · exact ⟨N, by omega, by omega, e, by rw [h2]; exact e2.symm⟩
      · obtain ⟨x, x1, x2, x3, x4⟩ := cntP_x (p := p) N n h0 (by omega)
        exact ⟨x, x1, by omega, x3, x4⟩
    · have h1 := cntP_n (p := p) (c := N) (by omega) e
      rw [tn_s (by omega)] at h1
      have h2 : ((N : Int)).toNat = N := by omega
      rw [h2] at h1
      obtain ⟨x, x1, x2, x3, x4⟩ := cntP_x (p := p) N n h0 (by omega)
      exact ⟨x, x1, by omega, x3, x4⟩
theorem cntP_i {p : Int → Prop} {a b : Int} (ha : 0 ≤ a) (hb : 0 ≤ b) (pa : p a) (pb : p b) (h : cntP p a.toNat = cntP p b.toNat) : a = b := by
  rcases Int.lt_trichotomy a b with q | q | q
  · have := cntP_lt ha q pa; omega
  · exact q
  · have := cntP_lt hb q pb; omega
theorem sm_lt2 {f : Int → Int} {N : Int} : ∀ n : Nat, 0 ≤ N → (∀ k : Int, 0 ≤ k ∧ k < n → f k = if k < N then 1 else 0) → sm f n = if (n : Int) < N then (n : Int) else N
  | 0, h, _ => by
    unfold sm
    split <;> omega
  | n + 1, h, q => by
    unfold sm
    rw [sm_lt2 n h (fun k hk => q k (by omega)), q n (by omega)]
    by_cases a : (n : Int) < N
    · rw [if_pos a, if_pos a]
      split <;> omega
    · rw [if_neg a, if_neg a]
      split <;> omega
theorem inS_c {m c : Int} : inS m c ↔ inS m (c.toNat : Int) := by
  unfold inS
  rw [Int.toNat_natCast]
/-- basins just found are lakes without water -/
theorem Found.A {A : Int → Int} (hL : okL az) (hf : Found az A) : okA A := by
  have hS := hf.same hL
  have hL2 := hS.ok hL
  have hm := hL.m
  obtain ⟨⟨h1, h2, h3, h4, h5, h6, h7⟩, h8⟩ := hf
  have cr := cnt_r (az := az) (a := mny az) (by omega)
  have e0 : ∀ k, 0 ≤ k ∧ k < 72 → A (224 + k) = 0 ∧ A (296 + k) = 0 ∧ A (368 + k) = 0 := fun k hk => ⟨h4 _ (by omega), h4 _ (by omega), h4 _ (by omega)⟩
  have hval : ∀ b, isC az b → -1 ≤ A (116 + b) ∧ A (116 + b) < cnt az (mny az) := fun b hb => by
    rcases h2 b hb with ⟨x, x1, x2, x3, x4, x5⟩ | ⟨_, x5⟩
    · have := cnt_lt x1.1 x2 x3
      have := (cnt_r (az := az) (a := x) x1.1).1
      omega
    · omega
  have bas : ∀ k, 0 ≤ k ∧ k < cnt az (mny az) → ∃ b, isC az b ∧ A (116 + b) = k := fun k hk => by
    obtain ⟨x, x1, x2, x3, x4⟩ := cntP_x (p := isP0 az) (mny az).toNat k hk.1 hk.2
    have hx : isC az x := ⟨x1, by omega⟩
    refine ⟨x, hx, ?_⟩
    rcases h2 x hx with ⟨y, y1, y2, y3, y4, y5⟩ | ⟨y, _⟩
    · have e := isP0_u y3 x3 y4.symm
      rw [y5, e]; exact x4
    · exact absurd ⟨x, hx, hx.2, x3, rfl⟩ y
  have mk : ∀ k, 0 ≤ k ∧ k < 72 → (A (152 + k) ≠ 0 ↔ k < cnt az (mny az)) := fun k hk => by
    constructor
    · intro hne
      obtain ⟨c, hc, hi⟩ := okS_ne (h3 k hk).1 hne
      obtain ⟨q1, q2⟩ := ((h3 k hk).2 c hc).mp hi
      have := hval c q1
      omega
    · intro hlt e
      obtain ⟨b, hb, hb2⟩ := bas k ⟨hk.1, hlt⟩
      have := ((h3 k hk).2 b (hb.lt hL)).mpr ⟨hb, hb2⟩
      rw [e] at this
      exact inS_0 b this
  have hu : sm (usF A) 72 = cnt az (mny az) := by
    rw [sm_lt2 (N := cnt az (mny az)) 72 cr.1 (fun k hk => by
      unfold usF
      by_cases e : k < cnt az (mny az)
      · rw [if_pos e, if_pos ((mk k (by omega)).mpr e)]
      · rw [if_neg e, if_neg (fun q => e ((mk k (by omega)).mp q))])]
    rw [if_neg (by omega)]
  have ht : sm (tpF A) 72 = cnt az (mny az) := by
    rw [sm_lt2 (N := cnt az (mny az)) 72 cr.1 (fun k hk => by
      unfold tpF
      rw [h5 k (by omega)]
      by_cases e : k < cnt az (mny az)
      · rw [if_pos e, if_pos rfl]
      · rw [if_neg e, if_neg (by omega)])]
    rw [if_neg (by omega)]
  refine ⟨hL2, h6, by omega, fun k hk => ⟨(h3 k hk).1, fun c h0 hc => ?_⟩, fun k hk => ?_, fun k hk => ?_, fun k hk => ?_, fun k hk => ?_, fun k hk => ?_, fun k j hk hj => ?_, fun k hk => ?_, fun k hk => ?_, fun k hk => ?_, fun k i hk hi => ?_, by omega, fun k hk c hcc hc => ?_⟩
  · have h36 : c < 36 := by
      by_cases e : 36 ≤ c
      · exact absurd hc (okS_hi (h3 k hk).1 e)
      · omega
    exact (hS.c c).mpr (((h3 k hk).2 c ⟨h0, h36⟩).mp hc).1
  · rw [h5 k hk]; split <;> omega
  · rw [h5 k hk]
    intro q
    refine (mk k hk).mpr ?_
    by_cases e : k < cnt az (mny az)
    · exact e
    · rw [if_neg e] at q; omega
  · rw [(e0 k hk).1]; omega
  · rw [(e0 k hk).1]; have := capZ_r hL2 (A (152 + k)); omega
  · intro q1 q2
    exfalso
    have := (mk k hk).mp q2
    rw [h5 k hk, if_pos this] at q1
    omega
  · intro _ _ hne c hc1 hc2
    have hc1 := inS_c.mp hc1
    have hc2 := inS_c.mp hc2
    have h36 : (c.toNat : Int) < 36 := by
      by_cases e : 36 ≤ (c.toNat : Int)
      · exact absurd hc1 (okS_hi (h3 k hk).1 e)
      · omega
    have g1 := ((h3 k hk).2 _ ⟨by omega, h36⟩).mp hc1
    have g2 := ((h3 j hj).2 _ ⟨by omega, h36⟩).mp hc2
    exact hne (g1.2.symm.trans g2.2)
  · exact fun _ => e0 k hk
  · rw [(e0 k hk).2.1, (e0 k hk).2.2]; omega
  · rw [(e0 k hk).2.1, (e0 k hk).2.2]; exact fun q => absurd rfl q
  · rw [(e0 k hk).2.1, (e0 k hk).2.2]; exact fun q => absurd rfl q
  · have hcA := (hS.c c).mp hcc
    have hcl := hcA.lt hL
    obtain ⟨g1, g2⟩ := ((h3 k hk).2 c hcl).mp hc
    refine ⟨by omega, fun c' h1 h2 => ?_⟩
    have h1 := (hS.c c').mp h1
    exact ((h3 k hk).2 c' (h1.lt hL)).mpr ⟨h1, h2.trans g2⟩
theorem Found.w {A : Int → Int} (hf : Found az A) : waterZ A = 0 := by
  obtain ⟨⟨h1, h2, h3, h4, h5, h6, h7⟩, h8⟩ := hf
  rw [water_sm]
  have := sm_r (f := wtF A) (b := 0) 72 (fun k hk => by unfold wtF; rw [h4 (224 + k) (by omega)]; split <;> omega)
  omega
theorem Found.j {A : Int → Int} (hf : Found az A) {j : Int} (hj : (0 ≤ j ∧ j < 116) ∧ j ≠ 6) : A j = az j := hf.1.1 j (by omega) hj.2 (by omega)
/-! the lakes in order -/
noncomputable def ordK (az : Int → Int) (n : Int) : Int := @Classical.epsilon Int ⟨0⟩ (fun k => ∃ x, isC az x ∧ isF az x ∧ cntP (isF az) x.toNat = n ∧ k = lakeZ az x)
theorem ordK_p (hL : okL az) {n : Int} (hn : 0 ≤ n ∧ n < nL az) : ∃ x, isC az x ∧ isF az x ∧ cntP (isF az) x.toNat = n ∧ ordK az n = lakeZ az x := by
  have hm := hL.m
  obtain ⟨x, x1, x2, x3, x4⟩ := cntP_x (p := isF az) (mny az).toNat n hn.1 hn.2
  exact Classical.epsilon_spec (p := fun k => ∃ x, isC az x ∧ isF az x ∧ cntP (isF az) x.toNat = n ∧ k = lakeZ az x) ⟨_, x, ⟨x1, by omega⟩, x3, x4, rfl⟩
theorem ordK_k (hL : okL az) {n : Int} (hn : 0 ≤ n ∧ n < nL az) : isK az (ordK az n) := by
  obtain ⟨x, x1, x2, x3, x4⟩ := ordK_p hL hn
  rw [x4]
  rcases lakeZ_p (az := az) x with e | ⟨e1, e2, _⟩
  · exact absurd e x2.1
  · exact ⟨e1, e2⟩
theorem ordK_e {M M' : Nat → Int → Int} (hL : okL (M 0)) (h : fr [11, 12] M M' ∧ M' 12 0 = nL (M 0) ∧ isOrd (M 0) (M' 11) (mny (M 0))) {n : Int} (hn : 0 ≤ n ∧ n < nL (M 0)) : M' 11 n = ordK (M 0) n := by
  obtain ⟨x, x1, x2, x3, x4⟩ := ordK_p hL hn
  rw [x4, ← x3]
  exact h.2.2 x x1 x1.2 x2
theorem ordK_i (hL : okL az) {n i : Int} (hn : 0 ≤ n ∧ n < nL az) (hi : 0 ≤ i ∧ i < nL az) (h : ordK az n = ordK az i) : n = i := by
  obtain ⟨x, x1, x2, x3, x4⟩ := ordK_p hL hn
  obtain ⟨y, y1, y2, y3, y4⟩ := ordK_p hL hi
  have e : lakeZ az x = lakeZ az y := by rw [← x4, ← y4]; exact h
  have : x = y := isLow_u x2.2 (e ▸ y2.2)
  rw [← x3, ← y3, this]
theorem ordK_s (h : okA az) {k : Int} (q : isK az k) : ∃ n, (0 ≤ n ∧ n < nL az) ∧ ordK az n = k := by
  have hl := lowZ_p (h.S k q.1).1 (h.n k q.1 q.2)
  have hc : isC az (lowZ (az (152 + k))) := (h.S k q.1).2 _ hl.1.1 hl.2.1
  have e := lakeZ_u h q.1 q.2 hl.2.1
  have hF : isF az (lowZ (az (152 + k))) := ⟨by rw [e]; have := q.1; omega, by rw [e]; exact hl⟩
  have hn := isF_lt h.L hc hF
  refine ⟨_, hn, ?_⟩
  obtain ⟨x, x1, x2, x3, x4⟩ := ordK_p h.L hn
  have : x = lowZ (az (152 + k)) := cntP_i x1.1 hc.1 x2 hF x3
  rw [x4, this, e]
/-- a sum over some of the places, each once -/
theorem sm_in {f : Int → Int} {o : Int → Int} : ∀ (N : Nat) (f : Int → Int), (∀ k : Int, 0 ≤ k ∧ k < 72 → 0 ≤ f k) → (∀ n : Int, 0 ≤ n ∧ n < N → 0 ≤ o n ∧ o n < 72) → (∀ n i : Int, 0 ≤ n ∧ n < N → 0 ≤ i ∧ i < N → o n = o i → n = i) → sm (fun n => f (o n)) N ≤ sm f 72
  | 0, f, h, _, _ => by
    have := sm_r (f := f) (b := sm f 72)
    show (0 : Int) ≤ sm f 72
    have g : ∀ n : Nat, n ≤ 72 → 0 ≤ sm f n := by
      intro n
      induction n with
      | zero => intro _; exact Int.le_refl _
      | succ n ih =>
        intro hn
        have := ih (by omega)
        have := h n (by omega)
        show 0 ≤ sm f n + f n
        omega
    exact g 72 (Nat.le_refl _)
  | N + 1, f, h, ho, hi => by
    have h1 := sm_in (f := f) (o := o) N (fup f (o N) 0) (fun k hk => by
      by_cases e : k = o N
      · rw [e, fup_s]; omega
      · rw [fup_n _ _ e]; exact h k hk) (fun n hn => ho n (by omega)) (fun n i hn hi2 => hi n i (by omega) (by omega))
    rw [sm_f 72 (ho N (by omega)), sm_e (h := fun n => f (o n)) N (fun n hn => fup_n _ _ (fun e => by have := hi n N (by omega) (by omega) e; omega))] at h1
    show sm (fun n => f (o n)) N + f (o N) ≤ sm f 72
    omega
theorem ord_w (h : okA az) : sm (fun n => az (224 + ordK az n)) (nL az).toNat ≤ waterZ az := by
  have hn := nL_r h.L
  rw [water_sm]
  have h1 := sm_in (f := wtF az) (o := ordK az) (nL az).toNat (wtF az) (fun k hk => by unfold wtF; have := h.v k hk; split <;> omega) (fun n hn2 => (ordK_k h.L (by omega)).1) (fun n i hn2 hi e => ordK_i h.L (by omega) (by omega) e)
  rw [sm_e (h := fun n => wtF az (ordK az n)) _ (fun n hn2 => by
    have := ordK_k h.L (n := n) (by omega)
    show az (224 + ordK az n) = wtF az (ordK az n)
    unfold wtF
    rw [if_pos this.2])]
  exact h1
/-! the lowest place of a lake, the first of these -/
def lpF (az : Int → Int) (m : Int) : Nat → Int
  | 0 => -1
  | n + 1 => if inS m n ∧ (lpF az m n = -1 ∨ hgt az n < hgt az (lpF az m n)) then n else lpF az m n
def lpZ (az : Int → Int) (m : Int) : Int := lpF az m (mny az).toNat
theorem lpF_r {m : Int} : ∀ n : Nat, lpF az m n = -1 ∨ ((0 ≤ lpF az m n ∧ lpF az m n < n) ∧ inS m (lpF az m n))
  | 0 => Or.inl rfl
  | n + 1 => by
    unfold lpF
    split
    · rename_i h; exact Or.inr ⟨by omega, h.1⟩
    · rcases lpF_r (m := m) n with h | h
      · exact Or.inl h
      · exact Or.inr ⟨by omega, h.2⟩
theorem lpF_x {m c : Int} (hi : inS m c) : ∀ n : Nat, 0 ≤ c ∧ c < n → lpF az m n ≠ -1
  | 0, h => by omega
  | n + 1, h => by
    unfold lpF
    split
    · omega
    · rename_i q
      by_cases e : c = n
      · subst e
        exact fun e2 => q ⟨hi, Or.inl e2⟩
      · exact lpF_x hi n (by omega)
theorem lpF_s {m c : Int} (hc : 0 ≤ c) : lpF az m (c + 1).toNat = if inS m c ∧ (lpF az m c.toNat = -1 ∨ hgt az c < hgt az (lpF az m c.toNat)) then c else lpF az m c.toNat := by
  obtain ⟨n, rfl⟩ := Int.eq_ofNat_of_zero_le hc
  rw [tn_s hc]
  rfl
theorem lpZ_r (h : okA az) {k : Int} (q : isK az k) : isC az (lpZ az (az (152 + k))) ∧ inS (az (152 + k)) (lpZ az (az (152 + k))) := by
  have hm := h.L.m
  have hl := lowZ_p (h.S k q.1).1 (h.n k q.1 q.2)
  have hc : isC az (lowZ (az (152 + k))) := (h.S k q.1).2 _ hl.1.1 hl.2.1
  have h1 := (lpF_r (az := az) (m := az (152 + k)) (mny az).toNat).resolve_left (lpF_x hl.2.1 _ (by have := hc.1; have := hc.2; omega))
  exact ⟨⟨h1.1.1, by have := h1.1.2; unfold lpZ; omega⟩, h1.2⟩
/-! the water poured again: n times -/
def chR (az : Int → Int) (P V : Int → Int) : Nat → (Int → Int) → Prop
  | 0, Z => Z = az
  | n + 1, Z => ∃ Y, chR az P V n Y ∧ Pours Y (lakeZ Y (P n)) (V n) Z
theorem chR_u {P V : Int → Int} : ∀ (n : Nat) (Z Z' : Int → Int), chR az P V n Z → chR az P V n Z' → Z = Z'
  | 0, _, _, h, h' => h.trans h'.symm
  | n + 1, _, _, ⟨Y, h1, h2⟩, ⟨Y', h1', h2'⟩ => by
    have e := chR_u n Y Y' h1 h1'
    subst e
    exact h2.u h2'
theorem chR_ok {P V : Int → Int} (h : okA az) : ∀ (n : Nat), (∀ i : Int, 0 ≤ i ∧ i < n → 0 ≤ V i) → ∃ Z, chR az P V n Z ∧ okA Z ∧ sameB az Z ∧ Z 4 = az 4 ∧ Z 5 = az 5 ∧ waterZ Z + Z 3 = waterZ az + az 3 + sm V n ∧ az 3 ≤ Z 3 ∧ 0 ≤ waterZ Z
  | 0, _ => by
    obtain ⟨_, _, _, _, _, _, _, _, _⟩ := pour_ok h 0 (r := 0) (Int.le_refl _)
    refine ⟨az, rfl, h, sameB.rf, rfl, rfl, by unfold sm; omega, Int.le_refl _, ?_⟩
    rw [water_sm]
    have h1 := sm_ge (f := wtF az) (k := 0) 72 (fun k hk => by unfold wtF; have := h.v k (by omega); split <;> omega) (by omega)
    have h2 : 0 ≤ wtF az 0 := by unfold wtF; have := h.v 0 (by omega); split <;> omega
    omega
  | n + 1, hV => by
    obtain ⟨Y, y1, y2, y3, y4, y5, y6, y7, y8⟩ := chR_ok (P := P) h n (fun i hi => hV i (by omega))
    obtain ⟨Z, z1, z2, z3, z4, z5, z6, z7, z8⟩ := pour_ok y2 (P n) (hV n (by omega))
    refine ⟨Z, ⟨Y, y1, z1⟩, z2, y3.tr z3, z4.trans y4, z5.trans y5, ?_, by omega, z8⟩
    show _ = _ + (sm V n + V n)
    omega
end SP13
