/-! THE MODEL'S STATE: frames, arrays that agree where they are read; lakes as numbers -/
set_option maxRecDepth 100000
/-- nothing but the fields ks has changed -/
def fr (ks : List Nat) (M M' : Nat → Int → Int) : Prop := ∀ k, k ∉ ks → M' k = M k
theorem fr.rf {ks : List Nat} {M : Nat → Int → Int} : fr ks M M := fun _ _ => rfl
theorem fr.tr {ks : List Nat} {M M1 M2 : Nat → Int → Int} (h1 : fr ks M M1) (h2 : fr ks M1 M2) : fr ks M M2 := fun k hk => (h2 k hk).trans (h1 k hk)
theorem fr.up {ks ks' : List Nat} {M M' : Nat → Int → Int} (h : fr ks M M') (hs : ∀ k, k ∈ ks → k ∈ ks') : fr ks' M M' := fun k hk => h k (fun h1 => hk (hs k h1))
theorem fr.s1 {ks : List Nat} {M M1 : Nat → Int → Int} {k : Nat} {z : Int} (h : fr ks M M1) (hk : k ∈ ks) : fr ks M (ms1 M1 k z) := fun j hj => by
  have : j ≠ k := fun e => hj (e ▸ hk)
  simp only [ms1, if_neg this]
  exact h j hj
theorem fr.a1 {ks : List Nat} {M M1 : Nat → Int → Int} {k : Nat} {i z : Int} (h : fr ks M M1) (hk : k ∈ ks) : fr ks M (ma1 M1 k i z) := fun j hj => by
  have : j ≠ k := fun e => hj (e ▸ hk)
  simp only [ma1, if_neg this]
  exact h j hj
/-- field k is f -/
def mA (M : Nat → Int → Int) (k : Nat) (f : Int → Int) : Nat → Int → Int := fun i => if i = k then f else M i
theorem fr_mA {M : Nat → Int → Int} {k : Nat} {f : Int → Int} : fr [k] M (mA M k f) := fun j hj => by
  have : j ≠ k := fun e => hj (e ▸ List.mem_singleton.mpr rfl)
  simp only [mA, if_neg this]
/-- how long the model's arrays are (1: a number) -/
def mLen (k : Nat) : Int := if k = 0 then 513 else if k = 1 then 2052 else if k = 2 then 513 else if k = 9 then 72 else if k = 10 then 72 else if k = 20 then 150 else 36
def mArr (k : Nat) : Bool := k == 0 || k == 1 || k == 2 || k == 5 || k == 9 || k == 10 || k == 11 || k == 15 || k == 16 || k == 18 || k == 19 || k == 20 || k == 24
/-- the two states look alike: numbers at 0, arrays within their bounds -/
def mEq (M M' : Nat → Int → Int) : Prop := ∀ k, k < 25 → if mArr k = true then ∀ j, 0 ≤ j ∧ j < mLen k → M k j = M' k j else M k 0 = M' k 0
theorem aJ_same {g : GV} {D : va_G} {a n : Nat} {f f' : Int → Int} {H : Heap} (h : ∀ j : Int, 0 ≤ j ∧ j < n → f j = f' j) (hq : va_at D cl0 (a, aJ g n f) H) : va_at D cl0 (a, aJ g n f') H := by
  have h1 : H[a]? = some (vp_cell (g_c g 1) (n, .inr (.inl (fun j : Nat => Int64.ofInt (f (j : Int)))))) := hq
  show H[a]? = some (vp_cell (g_c g 1) (n, .inr (.inl (fun j : Nat => Int64.ofInt (f' (j : Int))))))
  rw [h1, vp_cell_l, vp_cell_l]
  congr 1
  unfold arrV
  congr 1
  apply Array.ext
  · simp
  · intro i h1 h2
    simp only [Array.size_ofFn] at h1
    simp only [Array.getElem_ofFn]
    rw [h i (by omega)]
theorem aI_same {g : GV} {D : va_G} {a n : Nat} {f f' : Int → Int} {H : Heap} (h : ∀ j : Int, 0 ≤ j ∧ j < n → f j = f' j) (hq : va_at D cl0 (a, aI g n f) H) : va_at D cl0 (a, aI g n f') H := by
  have h1 : H[a]? = some (vp_cell (g_c g 0) (n, .inl (fun j : Nat => Int32.ofInt (f (j : Int))))) := hq
  show H[a]? = some (vp_cell (g_c g 0) (n, .inl (fun j : Nat => Int32.ofInt (f' (j : Int)))))
  rw [h1, vp_cell_i, vp_cell_i]
  congr 1
  unfold arrV
  congr 1
  apply Array.ext
  · simp
  · intro i h1 h2
    simp only [Array.size_ofFn] at h1
    simp only [Array.getElem_ofFn]
    rw [h i (by omega)]
theorem wN_addr {A : Nat → Prop} {Bs Bs' : List va_W} (h : Bs.flatten.map Prod.fst = Bs'.flatten.map Prod.fst) (hN : wN A Bs) : wN A Bs' := by
  refine ⟨h ▸ hN.1, fun q hq => ?_⟩
  have h1 : q.1 ∈ Bs.flatten.map Prod.fst := by rw [h]; exact List.mem_map.mpr ⟨q, hq, rfl⟩
  obtain ⟨q', h2, h3⟩ := List.mem_map.mp h1
  rw [← h3]
  exact hN.2 q' h2
theorem wm_norm {g : GV} {F : Fx} {K N pc : Nat} {L : List (Nat × Value)} {st : List Value} {ad : Nat → Nat} {M M' : Nat → Int → Int} (h : mEq M M') (k : Wp g F [MB g ad M'] K N pc L st) : Wp g F [MB g ad M] K N pc L st := by
  intro H locs cells slots ls hP hN hS hl hc hs
  have e0 : ∀ k, k < 25 → mArr k = false → M k 0 = M' k 0 := fun k hk hm => by
    have := h k hk
    rw [if_neg (by rw [hm]; decide)] at this
    exact this
  have eA : ∀ k, k < 25 → mArr k = true → ∀ j, 0 ≤ j ∧ j < mLen k → M k j = M' k j := fun k hk hm => by
    have := h k hk
    rw [if_pos hm] at this
    exact this
  refine k H locs cells slots ls (fun q hq => ?_) ?_ hS hl hc hs
  · have hP' : ∀ q ∈ MB g ad M, va_at (g_D g) cl0 q H := fun q hq => hP q (by simpa using hq)
    have hq : q ∈ MB g ad M' := by simpa using hq
    unfold MB at hq hP'
    simp only [List.mem_cons, List.not_mem_nil, or_false] at hq hP'
    rcases hq with rfl | rfl | rfl | rfl | rfl | rfl | rfl | rfl | rfl | rfl | rfl | rfl | rfl | rfl
    · have := hP' _ (Or.inl rfl)
      rw [e0 3 (by decide) rfl, e0 4 (by decide) rfl, e0 6 (by decide) rfl, e0 7 (by decide) rfl, e0 8 (by decide) rfl, e0 12 (by decide) rfl, e0 13 (by decide) rfl, e0 14 (by decide) rfl, e0 17 (by decide) rfl, e0 21 (by decide) rfl, e0 22 (by decide) rfl, e0 23 (by decide) rfl] at this
      exact this
    · exact aJ_same (eA 0 (by decide) rfl) (hP' (ad 0, aJ g 513 (M 0)) (by simp))
    · exact aJ_same (eA 1 (by decide) rfl) (hP' (ad 1, aJ g 2052 (M 1)) (by simp))
    · exact aJ_same (eA 2 (by decide) rfl) (hP' (ad 2, aJ g 513 (M 2)) (by simp))
    · exact aJ_same (eA 5 (by decide) rfl) (hP' (ad 5, aJ g 36 (M 5)) (by simp))
    · exact aI_same (eA 9 (by decide) rfl) (hP' (ad 9, aI g 72 (M 9)) (by simp))
    · exact aJ_same (eA 10 (by decide) rfl) (hP' (ad 10, aJ g 72 (M 10)) (by simp))
    · exact aI_same (eA 11 (by decide) rfl) (hP' (ad 11, aI g 36 (M 11)) (by simp))
    · exact aJ_same (eA 15 (by decide) rfl) (hP' (ad 15, aJ g 36 (M 15)) (by simp))
    · exact aI_same (eA 16 (by decide) rfl) (hP' (ad 16, aI g 36 (M 16)) (by simp))
    · exact aI_same (eA 18 (by decide) rfl) (hP' (ad 18, aI g 36 (M 18)) (by simp))
    · exact aJ_same (eA 19 (by decide) rfl) (hP' (ad 19, aJ g 36 (M 19)) (by simp))
    · exact aI_same (eA 20 (by decide) rfl) (hP' (ad 20, aI g 150 (M 20)) (by simp))
    · exact aI_same (eA 24 (by decide) rfl) (hP' (ad 24, aI g 36 (M 24)) (by simp))
  · exact wN_addr (Bs := [MB g ad M]) (Bs' := [MB g ad M']) rfl hN
/-- one field alone differs: enough to look there -/
theorem mEq_1 {M M' : Nat → Int → Int} (k0 : Nat) (h : ∀ k, k ≠ k0 → M k = M' k) (h0 : mArr k0 = true) (h1 : ∀ j, 0 ≤ j ∧ j < mLen k0 → M k0 j = M' k0 j) : mEq M M' := by
  intro k hk
  by_cases e : k = k0
  · subst e
    rw [if_pos h0]
    exact h1
  · rw [h k e]
    split
    · exact fun _ _ => rfl
    · rfl
def thr3 (p q r : Int) : Int := if p = 0 then 1 else if q = 0 then 2 else if r = 0 then 3 else 0
/-- the lakes' numbers are in range -/
def okK (az : Int → Int) : Prop := (∀ k, 0 ≤ k ∧ k < 72 → okS (az (152 + k)) ∧ (0 ≤ az (224 + k) ∧ az (224 + k) ≤ 4000000) ∧ (0 ≤ az (296 + k) ∧ az (296 + k) < 72) ∧ (0 ≤ az (368 + k) ∧ az (368 + k) < 72) ∧ (az (440 + k) = 0 ∨ az (440 + k) = 1)) ∧ okS (az 512)
def lk (az : Int → Int) (c : Int) : Nat → Int
  | 0 => -1
  | n + 1 => if az (440 + n) = 1 ∧ inS (az (152 + n)) c then n else lk az c n
/-- the lake of a cell, or -1 -/
def lakeZ (az : Int → Int) (c : Int) : Int := lk az c 72
def psA (az : Int → Int) (m a : Int) (t : Int × Int × Int) (s : Int) : Int × Int × Int :=
  if nbr az a s ≠ -1 ∧ ¬ inS m (nbr az a s) ∧ (t.1 = -1 ∨ thr az a (nbr az a s) < t.1) then (thr az a (nbr az a s), a, nbr az a s) else t
def psI (az : Int → Int) (m a : Int) (t : Int × Int × Int) : Nat → Int × Int × Int
  | 0 => t
  | s + 1 => psA az m a (psI az m a t s) s
def ps (az : Int → Int) (m : Int) : Nat → Int × Int × Int
  | 0 => (-1, -1, -1)
  | n + 1 => if inS m n then psI az m n (ps az m n) 4 else ps az m n
/-- the pass of a lake: how high, from, to -/
def pass (az : Int → Int) (m : Int) : Int × Int × Int := ps az m (mny az).toNat
def capS (az : Int → Int) (m p : Int) : Nat → Int
  | 0 => 0
  | n + 1 => capS az m p n + (if inS m n ∧ hgt az n < p then p - hgt az n else 0)
def capZ (az : Int → Int) (m : Int) : Int := if (pass az m).1 = -1 then -1 else capS az m (pass az m).1 (mny az).toNat
def waS (az : Int → Int) : Nat → Int
  | 0 => 0
  | n + 1 => waS az n + (if az (440 + n) = 1 then az (224 + n) else 0)
def waterZ (az : Int → Int) : Int := waS az 72
section SP2
variable {az : Int → Int}
theorem lk_r (c : Int) : ∀ n : Nat, lk az c n = -1 ∨ (0 ≤ lk az c n ∧ lk az c n < n)
  | 0 => Or.inl rfl
  | n + 1 => by
    unfold lk
    split
    · right; omega
    · rcases lk_r c n with h | h
      · left; exact h
      · right; omega
theorem lakeZ_r (c : Int) : lakeZ az c = -1 ∨ (0 ≤ lakeZ az c ∧ lakeZ az c < 72) := lk_r c 72
theorem psA_r (hL : okL az) {m a s : Int} {t : Int × Int × Int} (ha : isC az a) (ht : t.1 = -1 ∨ (0 ≤ t.1 ∧ t.1 ≤ 99 ∧ isC az t.2.1 ∧ isC az t.2.2)) : (psA az m a t s).1 = -1 ∨ (0 ≤ (psA az m a t s).1 ∧ (psA az m a t s).1 ≤ 99 ∧ isC az (psA az m a t s).2.1 ∧ isC az (psA az m a t s).2.2) := by
  unfold psA
  split
  · rename_i h
    right
    have hb : isC az (nbr az a s) := by
      rcases nbr_r hL ha (s := s) with h1 | h1
      · exact absurd h1 h.1
      · exact h1
    have := thr_r hL ha hb
    exact ⟨this.1, this.2, ha, hb⟩
  · exact ht
theorem psI_r (hL : okL az) {m a : Int} {t : Int × Int × Int} (ha : isC az a) (ht : t.1 = -1 ∨ (0 ≤ t.1 ∧ t.1 ≤ 99 ∧ isC az t.2.1 ∧ isC az t.2.2)) : ∀ n : Nat, (psI az m a t n).1 = -1 ∨ (0 ≤ (psI az m a t n).1 ∧ (psI az m a t n).1 ≤ 99 ∧ isC az (psI az m a t n).2.1 ∧ isC az (psI az m a t n).2.2)
  | 0 => ht
  | n + 1 => psA_r hL ha (psI_r hL ha ht n)
theorem ps_r (hL : okL az) {m : Int} : ∀ n : Nat, (n : Int) ≤ mny az → (ps az m n).1 = -1 ∨ (0 ≤ (ps az m n).1 ∧ (ps az m n).1 ≤ 99 ∧ isC az (ps az m n).2.1 ∧ isC az (ps az m n).2.2)
  | 0, _ => Or.inl rfl
  | n + 1, h => by
    have ih := ps_r hL (m := m) n (by omega)
    unfold ps
    split
    · exact psI_r hL (by omega) ih 4
    · exact ih
theorem pass_r (hL : okL az) (m : Int) : (pass az m).1 = -1 ∨ (0 ≤ (pass az m).1 ∧ (pass az m).1 ≤ 99 ∧ isC az (pass az m).2.1 ∧ isC az (pass az m).2.2) := ps_r hL _ (by have := hL.m; omega)
theorem capS_r (hL : okL az) (m : Int) {p : Int} (hp : p ≤ 99) : ∀ n : Nat, (n : Int) ≤ 36 → 0 ≤ capS az m p n ∧ capS az m p n ≤ 99 * n
  | 0, _ => by unfold capS; omega
  | n + 1, h => by
    have ih := capS_r hL m hp n (by omega)
    have hh := hL.hg (c := n) (by omega)
    unfold capS
    split <;> omega
theorem capZ_r (hL : okL az) (m : Int) : -1 ≤ capZ az m ∧ capZ az m ≤ 3564 := by
  have h1 := hL.m
  unfold capZ
  split
  · omega
  · rename_i h
    have := capS_r hL m (p := (pass az m).1) (by rcases pass_r hL m with h9 | h9 <;> omega) (mny az).toNat (by omega)
    omega
theorem waS_r (hK : okK az) : ∀ n : Nat, n ≤ 72 → 0 ≤ waS az n ∧ waS az n ≤ 4000000 * n
  | 0, _ => by unfold waS; omega
  | n + 1, h => by
    have ih := waS_r hK n (by omega)
    have := (hK.1 n (by omega)).2.1
    unfold waS
    split <;> omega
end SP2
