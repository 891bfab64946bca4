/-! SETS OF CELLS AS LONGS. The first six rows are of the kit's laws/BITS. -/
set_option maxRecDepth 100000
theorem wb_tb (n : Nat) : (lN n).toBitVec = BitVec.ofNat 64 n := rfl
theorem wb_inj {a b : Int64} (h : a.toBitVec = b.toBitVec) : a = b := Int64.toBitVec_inj.mp h
theorem wb_c : ∀ k, k < 64 → ((nI k).toInt64 &&& 63) = lN k := by decide +kernel
theorem wb_sm : ∀ k, k < 64 → (BitVec.ofNat 64 k).smod 64 = BitVec.ofNat 64 k := by decide +kernel
theorem wb_shl (n : Nat) {k : Nat} (hk : k < 64) : lN n <<< ((nI k).toInt64 &&& 63) = lN (n * 2 ^ k) := by
  rw [wb_c k hk]
  apply wb_inj
  rw [Int64.toBitVec_shiftLeft, wb_tb, wb_tb, wb_tb, wb_sm k hk]
  apply BitVec.eq_of_toNat_eq
  rw [BitVec.shiftLeft_eq', BitVec.toNat_shiftLeft, BitVec.toNat_ofNat, BitVec.toNat_ofNat, BitVec.toNat_ofNat, Nat.mod_eq_of_lt (show k < 2 ^ 64 by omega), Nat.shiftLeft_eq, Nat.mul_mod, Nat.mod_mod, ← Nat.mul_mod]
theorem pf_lI {a : Nat} (h : a < 2 ^ 63) : (lN a).toInt = (a : Int) := lg_ofNat_toInt h
theorem pf_shr {a d : Nat} {D : Int64} (hD : (D.toBitVec.smod 64).toNat = d) (h : a < 2 ^ 62) : lN a >>> D = lN (a / 2 ^ d) := by
  have hd : a / 2 ^ d ≤ a := Nat.div_le_self _ _
  apply Int64.toInt_inj.mp
  have e : (lN a >>> D).toInt = (lN a).toInt >>> d := by
    rw [← hD]
    exact BitVec.toInt_sshiftRight ..
  rw [e, Int.shiftRight_eq_div_pow, pf_lI (by omega), pf_lI (by omega)]
  rfl
theorem j_lN (n : Nat) : Int64.ofInt (n : Int) = lN n := Int64.ofInt_eq_ofNat
theorem i_nI (n : Nat) : Int32.ofInt (n : Int) = nI n := Int32.ofInt_eq_ofNat
theorem two_p (n : Nat) : (2 : Int) ^ n = ((2 ^ n : Nat) : Int) := by
  rw [Int.natCast_pow]
  rfl
theorem j_shl {x y : Int} (hx : 0 ≤ x) (hy : 0 ≤ y ∧ y < 64) : Int64.ofInt x <<< ((Int32.ofInt y).toInt64 &&& 63) = Int64.ofInt (x * 2 ^ y.toNat) := by
  obtain ⟨n, rfl⟩ := Int.eq_ofNat_of_zero_le hx
  obtain ⟨k, rfl⟩ := Int.eq_ofNat_of_zero_le hy.1
  rw [j_lN, i_nI, wb_shl n (by omega), ← j_lN, Int.toNat_natCast, two_p, Int.natCast_mul]
theorem j_shr {x y : Int} (hx : 0 ≤ x ∧ x < 4611686018427387904) (hy : 0 ≤ y ∧ y < 64) : Int64.ofInt x >>> ((Int32.ofInt y).toInt64 &&& 63) = Int64.ofInt (x / 2 ^ y.toNat) := by
  obtain ⟨n, rfl⟩ := Int.eq_ofNat_of_zero_le hx.1
  obtain ⟨k, rfl⟩ := Int.eq_ofNat_of_zero_le hy.1
  rw [j_lN, i_nI, wb_c k (by omega), pf_shr (d := k) (by rw [wb_tb, wb_sm k (by omega)]; simp; omega) (by omega), ← j_lN, Int.toNat_natCast, two_p, Int.natCast_ediv]
/-- the cell c is in the set m -/
abbrev inS (m c : Int) : Prop := m.toNat.testBit c.toNat = true
/-- a set of cells of a land of at most 36 -/
abbrev okS (m : Int) : Prop := 0 ≤ m ∧ m < 68719476736
theorem inS_has {m c : Int} (hm : 0 ≤ m) : inS m c ↔ andZ (m / 2 ^ c.toNat) 1 = 1 := by
  obtain ⟨n, rfl⟩ := Int.eq_ofNat_of_zero_le hm
  unfold inS andZ
  rw [two_p, ← Int.natCast_ediv, Int.toNat_natCast, Int.toNat_natCast, show (1 : Int).toNat = 1 from rfl, Nat.and_one_is_mod, Nat.testBit_eq_decide_div_mod_eq]
  simp only [decide_eq_true_eq]
  omega
theorem inS_or {a b : Int} (c : Int) : inS (orZ a b) c ↔ inS a c ∨ inS b c := by
  unfold inS orZ
  rw [Int.toNat_natCast, Nat.testBit_or, Bool.or_eq_true]
theorem inS_and {a b : Int} (c : Int) : inS (andZ a b) c ↔ inS a c ∧ inS b c := by
  unfold inS andZ
  rw [Int.toNat_natCast, Nat.testBit_and, Bool.and_eq_true]
theorem inS_bit {c j : Int} (hc : 0 ≤ c) (hj : 0 ≤ j) : inS (2 ^ c.toNat) j ↔ j = c := by
  unfold inS
  rw [two_p, Int.toNat_natCast, Nat.testBit_two_pow]
  simp only [decide_eq_true_eq]
  omega
theorem inS_0 (c : Int) : ¬ inS 0 c := by
  unfold inS
  simp
theorem okS_0 : okS 0 := by unfold okS; omega
theorem okS_bit {c : Int} (hc : 0 ≤ c ∧ c < 36) : okS (2 ^ c.toNat) := by
  unfold okS
  rw [two_p]
  have h1 : 0 < 2 ^ c.toNat := Nat.pow_pos (by decide)
  have h2 : 2 ^ c.toNat ≤ 2 ^ 35 := Nat.pow_le_pow_right (by decide) (by omega)
  omega
theorem okS_or {a b : Int} (ha : okS a) (hb : okS b) : okS (orZ a b) := by
  unfold okS orZ at *
  have := Nat.or_lt_two_pow (n := 36) (x := a.toNat) (y := b.toNat) (by omega) (by omega)
  omega
theorem okS_and {a b : Int} (ha : okS a) : okS (andZ a b) := by
  unfold okS andZ at *
  have := Nat.and_le_left (n := a.toNat) (m := b.toNat)
  omega
theorem okS_hi {a c : Int} (ha : okS a) (hc : 36 ≤ c) : ¬ inS a c := by
  unfold okS at ha
  unfold inS
  have h2 : 2 ^ 36 ≤ 2 ^ c.toNat := Nat.pow_le_pow_right (by decide) (by omega)
  rw [Nat.testBit_lt_two_pow (by omega)]
  simp
theorem okS_ext {a b : Int} (ha : okS a) (hb : okS b) (h : ∀ c, 0 ≤ c ∧ c < 36 → (inS a c ↔ inS b c)) : a = b := by
  have e : a.toNat = b.toNat := by
    apply Nat.eq_of_testBit_eq
    intro i
    by_cases hi : i < 36
    · have := h i (by omega)
      unfold inS at this
      rw [Int.toNat_natCast] at this
      cases h1 : a.toNat.testBit i <;> cases h2 : b.toNat.testBit i <;> simp_all
    · have h1 := okS_hi (c := i) ha (by omega)
      have h2 := okS_hi (c := i) hb (by omega)
      unfold inS at h1 h2
      rw [Int.toNat_natCast] at h1 h2
      cases h3 : a.toNat.testBit i <;> cases h4 : b.toNat.testBit i <;> simp_all
  unfold okS at ha hb
  omega
theorem okS_ne {a : Int} (ha : okS a) (h : a ≠ 0) : ∃ c, (0 ≤ c ∧ c < 36) ∧ inS a c := by
  apply Classical.byContradiction
  intro hn
  apply h
  refine okS_ext ha okS_0 (fun c hc => ⟨fun h1 => absurd ⟨c, hc, h1⟩ hn, fun h1 => absurd h1 (inS_0 c)⟩)
section BITS
variable {g : GV} {F : Fx} {cc : ByteArray} {own : String} {nL d : Nat} {Bs : List va_W} {K N pc : Nat} {L : List (Nat × Value)} {st : List Value}
theorem wp_lshl {x y : Int} (G : FxOk g F cc own nL d) (dg : decode cc pc = .ok (.lshl, 1)) (hx : 0 ≤ x) (hy : 0 ≤ y ∧ y < 64) (k : Wp g F Bs K N (pc + 1) L (jV (x * 2 ^ y.toNat) :: st)) : Wp g F Bs K N pc L (iV y :: jV x :: st) := wp_lshl_r G dg (by rw [j_shl hx hy]; exact k)
theorem wp_lshr {x y : Int} (G : FxOk g F cc own nL d) (dg : decode cc pc = .ok (.lshr, 1)) (hx : 0 ≤ x ∧ x < 4611686018427387904) (hy : 0 ≤ y ∧ y < 64) (k : Wp g F Bs K N (pc + 1) L (jV (x / 2 ^ y.toNat) :: st)) : Wp g F Bs K N pc L (iV y :: jV x :: st) := wp_lshr_r G dg (by rw [j_shr hx hy]; exact k)
/-- 1L << y -/
theorem wp_bit {y : Int} (G : FxOk g F cc own nL d) (dg : decode cc pc = .ok (.lshl, 1)) (hy : 0 ≤ y ∧ y < 64) (k : Wp g F Bs K N (pc + 1) L (jV (2 ^ y.toNat) :: st)) : Wp g F Bs K N pc L (iV y :: jV 1 :: st) := wp_lshl G dg (by omega) hy (by rw [Int.one_mul]; exact k)
end BITS
