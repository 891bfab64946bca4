/-! POURING: the pass of a lake is the least; what pouring does, as a function of the numbers -/
set_option maxRecDepth 100000
section SP8
variable {az az' : Int → Int}
theorem psA_le (hL : okL az) {m a s : Int} {t : Int × Int × Int} (ha : isC az a) (ht : t.1 ≠ -1) : (psA az m a t s).1 ≠ -1 ∧ (psA az m a t s).1 ≤ t.1 := by
  unfold psA
  split
  · rename_i h
    have hb : isC az (nbr az a s) := (nbr_r hL ha (s := s)).resolve_left h.1
    have h1 := thr_r hL ha hb
    have h2 := h.2.2.resolve_left ht
    show thr az a (nbr az a s) ≠ -1 ∧ thr az a (nbr az a s) ≤ t.1
    omega
  · exact ⟨ht, Int.le_refl _⟩
theorem psA_ld (hL : okL az) {m a s : Int} {t : Int × Int × Int} (ha : isC az a) (h1 : nbr az a s ≠ -1) (h2 : ¬ inS m (nbr az a s)) : (psA az m a t s).1 ≠ -1 ∧ (psA az m a t s).1 ≤ thr az a (nbr az a s) := by
  have hb : isC az (nbr az a s) := (nbr_r hL ha (s := s)).resolve_left h1
  have h3 := thr_r hL ha hb
  unfold psA
  split
  · show thr az a (nbr az a s) ≠ -1 ∧ thr az a (nbr az a s) ≤ thr az a (nbr az a s)
    omega
  · rename_i h
    have h4 : ¬ (t.1 = -1 ∨ thr az a (nbr az a s) < t.1) := fun q => h ⟨h1, h2, q⟩
    omega
theorem psI_le (hL : okL az) {m a : Int} {t : Int × Int × Int} (ha : isC az a) (ht : t.1 ≠ -1) : ∀ n : Nat, (psI az m a t n).1 ≠ -1 ∧ (psI az m a t n).1 ≤ t.1
  | 0 => ⟨ht, Int.le_refl _⟩
  | n + 1 => by
    have h1 := psI_le hL ha ht (m := m) n
    have h2 := psA_le hL ha h1.1 (m := m) (s := n)
    exact ⟨h2.1, Int.le_trans h2.2 h1.2⟩
theorem psI_ld (hL : okL az) {m a : Int} {t : Int × Int × Int} (ha : isC az a) {s : Nat} (h1 : nbr az a s ≠ -1) (h2 : ¬ inS m (nbr az a s)) : ∀ n : Nat, s < n → (psI az m a t n).1 ≠ -1 ∧ (psI az m a t n).1 ≤ thr az a (nbr az a s)
  | 0, h => absurd h (Nat.not_lt_zero _)
  | n + 1, h => by
    by_cases e : s = n
    · subst e
      exact psA_ld hL ha h1 h2
    · have h3 := psI_ld hL ha h1 h2 (t := t) n (by omega)
      have h4 := psA_le hL ha h3.1 (m := m) (s := n)
      exact ⟨h4.1, Int.le_trans h4.2 h3.2⟩
theorem ps_ld (hL : okL az) {m : Int} {a s : Nat} (ha : inS m a) (hs : s < 4) (h1 : nbr az a s ≠ -1) (h2 : ¬ inS m (nbr az a s)) : ∀ n : Nat, (n : Int) ≤ mny az → a < n → (ps az m n).1 ≠ -1 ∧ (ps az m n).1 ≤ thr az a (nbr az a s)
  | 0, _, h => absurd h (Nat.not_lt_zero _)
  | n + 1, hn, h => by
    by_cases e : a = n
    · subst e
      unfold ps
      rw [if_pos ha]
      exact psI_ld hL ⟨by omega, by omega⟩ h1 h2 4 hs
    · have h3 := ps_ld hL ha hs h1 h2 n (by omega) (by omega)
      unfold ps
      split
      · have h4 := psI_le hL (m := m) (a := n) ⟨by omega, by omega⟩ h3.1 4
        exact ⟨h4.1, Int.le_trans h4.2 h3.2⟩
      · exact h3
/-- no way out is lower than the pass -/
theorem pass_min (hL : okL az) {m a s : Int} (hc : isC az a) (ha : inS m a) (hs : 0 ≤ s ∧ s < 4) (h1 : nbr az a s ≠ -1) (h2 : ¬ inS m (nbr az a s)) : (pass az m).1 ≠ -1 ∧ (pass az m).1 ≤ thr az a (nbr az a s) := by
  obtain ⟨a, rfl⟩ := Int.eq_ofNat_of_zero_le hc.1
  obtain ⟨s, rfl⟩ := Int.eq_ofNat_of_zero_le hs.1
  have := hc.2
  exact ps_ld hL ha (by omega) h1 h2 _ (by omega) (by omega)
/-- t is none, or a way out of m -/
def atP (az : Int → Int) (m : Int) (t : Int × Int × Int) : Prop := t = (-1, -1, -1) ∨ ∃ a s, isC az a ∧ (0 ≤ s ∧ s < 4) ∧ inS m a ∧ nbr az a s ≠ -1 ∧ ¬ inS m (nbr az a s) ∧ t = (thr az a (nbr az a s), a, nbr az a s)
theorem psI_at {m a : Int} {t : Int × Int × Int} (hc : isC az a) (ha : inS m a) (ht : atP az m t) : ∀ n : Nat, n ≤ 4 → atP az m (psI az m a t n)
  | 0, _ => ht
  | n + 1, h => by
    have ih := psI_at hc ha ht n (by omega)
    show atP az m (psA az m a (psI az m a t n) n)
    unfold psA
    split
    · rename_i h
      exact Or.inr ⟨a, n, hc, by omega, ha, h.1, h.2.1, rfl⟩
    · exact ih
theorem ps_at {m : Int} : ∀ n : Nat, (n : Int) ≤ mny az → atP az m (ps az m n)
  | 0, _ => Or.inl rfl
  | n + 1, h => by
    have ih := ps_at (m := m) n (by omega)
    unfold ps
    split
    · rename_i q
      exact psI_at ⟨by omega, by omega⟩ q ih 4 (by omega)
    · exact ih
theorem pass_at (hL : okL az) (m : Int) : atP az m (pass az m) := ps_at _ (by have := hL.m; omega)
/-- the other way round -/
theorem nbr_sy (hL : okL az) {a s : Int} (hc : isC az a) (hs : 0 ≤ s ∧ s < 4) (h1 : nbr az a s ≠ -1) : nbr az (nbr az a s) (3 - s) = a := by
  have hw := hL.w
  have hm : mny az = az 0 * az 1 := rfl
  unfold isC at hc
  rcases (show az 0 = 1 ∨ az 0 = 2 ∨ az 0 = 3 ∨ az 0 = 4 ∨ az 0 = 5 ∨ az 0 = 6 by omega) with e | e | e | e | e | e <;>
  rcases (show s = 0 ∨ s = 1 ∨ s = 2 ∨ s = 3 by omega) with q | q | q | q <;> subst q <;> rw [e] at hm <;>
  simp only [nbr_0, nbr_1, nbr_2, nbr_3, e, show (3 : Int) - 0 = 3 from rfl, show (3 : Int) - 1 = 2 from rfl, show (3 : Int) - 2 = 1 from rfl, show (3 : Int) - 3 = 0 from rfl] at h1 ⊢ <;>
  split at h1 <;> first | exact absurd rfl h1 | (rename_i q; rw [if_pos q]; split <;> omega)
theorem gat_sy (a b : Int) : gat az a b = gat az b a := by
  unfold gat
  by_cases h : a < b
  · rw [if_pos h, if_pos h, if_neg (show ¬ b < a by omega), if_neg (show ¬ b < a by omega)]
  · by_cases e : a = b
    · rw [e]
    · rw [if_neg h, if_neg h, if_pos (show b < a by omega), if_pos (show b < a by omega)]
theorem mx_sy (a b : Int) : mx a b = mx b a := by unfold mx; split <;> split <;> omega
theorem thr_sy (a b : Int) : thr az a b = thr az b a := by unfold thr; rw [gat_sy, mx_sy (hgt az a)]
/-- a lake into which the pass of another one leads has no higher pass -/
theorem pass_nb (hL : okL az) {m o : Int} (h1 : (pass az m).1 ≠ -1) (h2 : inS o (pass az m).2.2) (h3 : ∀ c, inS m c → inS o c → False) : (pass az o).1 ≠ -1 ∧ (pass az o).1 ≤ (pass az m).1 := by
  rcases pass_at hL m with h | ⟨a, s, ha, hs, hi, hn, hm, h⟩
  · rw [h] at h1; exact absurd rfl h1
  · rw [h] at h2 ⊢
    have hb : isC az (nbr az a s) := (nbr_r hL ha (s := s)).resolve_left hn
    have e := nbr_sy hL ha hs hn
    have := pass_min hL (m := o) (s := 3 - s) hb h2 (by omega) (by rw [e]; have := ha.1; omega) (by rw [e]; exact fun q => h3 a hi q)
    rw [e, thr_sy] at this
    exact this
/-- what leads out of two leads out of one of them -/
theorem pass_or (hL : okL az) {x y p : Int} (hx : (pass az x).1 = p) (hy : (pass az y).1 = p) : (pass az (orZ x y)).1 = -1 ∨ p ≤ (pass az (orZ x y)).1 := by
  rcases pass_at hL (orZ x y) with h | ⟨a, s, ha, hs, hi, hn, hm, h⟩
  · rw [h]; exact Or.inl rfl
  · right
    rw [h]
    show p ≤ thr az a (nbr az a s)
    have hm2 : ¬ inS x (nbr az a s) ∧ ¬ inS y (nbr az a s) := ⟨fun q => hm ((inS_or _).mpr (Or.inl q)), fun q => hm ((inS_or _).mpr (Or.inr q))⟩
    rcases (inS_or _).mp hi with q | q
    · have := (pass_min hL ha q hs hn hm2.1).2; omega
    · have := (pass_min hL ha q hs hn hm2.2).2; omega
theorem capS_or {x y p p' : Int} (hp : p ≤ p') (hd : ∀ c, inS x c → inS y c → False) : ∀ n : Nat, capS az x p n + capS az y p n ≤ capS az (orZ x y) p' n
  | 0 => by unfold capS; omega
  | n + 1 => by
    have ih := capS_or hp hd n
    unfold capS
    by_cases h1 : inS x n
    · have h2 : ¬ inS y n := fun q => hd _ h1 q
      have h3 : inS (orZ x y) n := (inS_or _).mpr (Or.inl h1)
      rw [if_neg (fun q => h2 q.1 : ¬ (inS y n ∧ hgt az n < p))]
      by_cases h4 : hgt az n < p
      · rw [if_pos ⟨h1, h4⟩, if_pos ⟨h3, by omega⟩]; omega
      · rw [if_neg (fun q => h4 q.2)]
        split <;> omega
    · rw [if_neg (fun q => h1 q.1 : ¬ (inS x n ∧ hgt az n < p))]
      by_cases h2 : inS y n
      · have h3 : inS (orZ x y) n := (inS_or _).mpr (Or.inr h2)
        by_cases h4 : hgt az n < p
        · rw [if_pos ⟨h2, h4⟩, if_pos ⟨h3, by omega⟩]; omega
        · rw [if_neg (fun q => h4 q.2)]
          split <;> omega
      · rw [if_neg (fun q => h2 q.1)]
        split <;> omega
/-- together they can hold what both can -/
theorem capZ_or (hL : okL az) {x y : Int} (hp : (pass az x).1 = (pass az y).1) (hx : (pass az x).1 ≠ -1) (hd : ∀ c, inS x c → inS y c → False) : capZ az (orZ x y) = -1 ∨ capZ az x + capZ az y ≤ capZ az (orZ x y) := by
  rcases pass_or hL rfl hp.symm with h | h
  · left; unfold capZ; rw [if_pos h]
  · right
    have h9 : (pass az (orZ x y)).1 ≠ -1 := by rcases pass_r hL x with q | q <;> omega
    unfold capZ
    rw [if_neg hx, if_neg (by rw [← hp]; exact hx), if_neg h9, ← hp]
    exact capS_or h hd _
theorem capZ_n (hL : okL az) {m : Int} : capZ az m = -1 ↔ (pass az m).1 = -1 := by
  unfold capZ
  constructor
  · intro h
    by_cases e : (pass az m).1 = -1
    · exact e
    · rw [if_neg e] at h
      have := hL.m
      have := capS_r hL m (p := (pass az m).1) (by rcases pass_r hL m with q | q <;> omega) (mny az).toNat (by omega)
      omega
  · intro h; rw [if_pos h]
/-! sums -/
def sm (f : Int → Int) : Nat → Int
  | 0 => 0
  | n + 1 => sm f n + f n
theorem sm_e {f h : Int → Int} : ∀ n : Nat, (∀ k : Int, 0 ≤ k ∧ k < n → f k = h k) → sm f n = sm h n
  | 0, _ => rfl
  | n + 1, q => by
    unfold sm
    rw [sm_e n (fun k hk => q k (by omega)), q n (by omega)]
theorem sm_f {f : Int → Int} {k v : Int} : ∀ n : Nat, 0 ≤ k ∧ k < n → sm (fup f k v) n = sm f n - f k + v
  | 0, h => by omega
  | n + 1, h => by
    unfold sm
    by_cases e : k = n
    · subst e
      rw [fup_s, sm_e (h := f) n (fun j hj => fup_n _ _ (by omega))]
      omega
    · rw [sm_f n (by omega), fup_n _ _ (by omega)]
      omega
theorem sm_r {f : Int → Int} {b : Int} : ∀ n : Nat, (∀ k : Int, 0 ≤ k ∧ k < n → 0 ≤ f k ∧ f k ≤ b) → 0 ≤ sm f n ∧ sm f n ≤ b * n
  | 0, _ => by unfold sm; omega
  | n + 1, q => by
    have h1 := sm_r n (fun k hk => q k (by omega))
    have h2 := q n (by omega)
    unfold sm
    refine ⟨by omega, ?_⟩
    have : b * ((n + 1 : Nat) : Int) = b * n + b := by rw [Int.natCast_add, Int.mul_add]; simp
    omega
theorem sm_ge {f : Int → Int} {k : Int} : ∀ n : Nat, (∀ k : Int, 0 ≤ k ∧ k < n → 0 ≤ f k) → 0 ≤ k ∧ k < n → f k ≤ sm f n
  | 0, _, h => by omega
  | n + 1, q, h => by
    have h1 := sm_r (b := sm f n) (f := f)
    unfold sm
    by_cases e : k = n
    · subst e
      have : ∀ n' : Nat, n' ≤ n → 0 ≤ sm f n' := by
        intro n'
        induction n' with
        | zero => intro _; exact Int.le_refl _
        | succ m ih => intro hm; have := ih (by omega); have := q m (by omega); unfold sm; omega
      have := this n (Nat.le_refl _)
      omega
    · have := sm_ge n (fun k hk => q k (by omega)) (show 0 ≤ k ∧ k < n by omega)
      have := q n (by omega)
      omega
theorem sm_1 {f h : Int → Int} {k : Int} (n : Nat) (hk : 0 ≤ k ∧ k < n) (e : ∀ j : Int, 0 ≤ j ∧ j < n → j ≠ k → h j = f j) : sm h n = sm f n + (h k - f k) := by
  rw [sm_e (h := fup f k (h k)) n (fun j hj => by
    by_cases q : j = k
    · rw [q, fup_s]
    · rw [fup_n _ _ q]; exact e j hj q), sm_f n hk]
  omega
theorem sm_3 {f h : Int → Int} {k x y : Int} (n : Nat) (hk : 0 ≤ k ∧ k < n) (hx : 0 ≤ x ∧ x < n) (hy : 0 ≤ y ∧ y < n) (h1 : k ≠ x) (h2 : k ≠ y) (h3 : x ≠ y) (e : ∀ j : Int, 0 ≤ j ∧ j < n → j ≠ k → j ≠ x → j ≠ y → h j = f j) : sm h n = sm f n + (h k - f k) + (h x - f x) + (h y - f y) := by
  rw [sm_1 (f := fup (fup f k (h k)) x (h x)) n hy (fun j hj q => by
    by_cases q2 : j = x
    · rw [q2, fup_s]
    · rw [fup_n _ _ q2]
      by_cases q3 : j = k
      · rw [q3, fup_s]
      · rw [fup_n _ _ q3]; exact e j hj q3 q2 q), sm_f n hx, sm_f n hk, fup_n _ _ (Ne.symm h1), fup_n _ _ (Ne.symm h3), fup_n _ _ (Ne.symm h2)]
  omega
end SP8
