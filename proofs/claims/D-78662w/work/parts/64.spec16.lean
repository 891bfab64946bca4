/-! QUOTIENTS OF WHOLE NUMBERS AS DOUBLES: no NaN -/
set_option maxRecDepth 100000
theorem fp_id {x : Int} (hx : -2147483648 ≤ x ∧ x ≤ 2147483647) : FP.i2d (Int32.ofInt x) = FP.l2d (Int64.ofInt x) := by
  show UInt64.ofNat (FP.Core.fromInt FP.Core.b64 (Int32.ofInt x).toInt) = UInt64.ofNat (FP.Core.fromInt FP.Core.b64 (Int64.ofInt x).toInt)
  rw [i32_toInt hx, i64_toInt (by omega)]
theorem fp_t : FP.Core.b64.tails = 4503599627370496 := by decide
theorem fp_e : FP.Core.b64.exps = 2048 := by decide
theorem fp_qn : FP.Core.b64.qmin = -1074 := by decide
theorem fp_qx : FP.Core.b64.qmax = 971 := by decide
theorem fp_p : 2 ^ FP.Core.b64.p = 9007199254740992 := by decide
/-- what is encoded of a number that is not below zero -/
theorem fp_enc {c : Nat} {q : Int} (hc : c < 9007199254740992) (hq : q ≤ 971) : FP.Core.encode FP.Core.b64 (.fin false c q) < 2047 * 4503599627370496 ∧ ∃ c' q', FP.Core.decode FP.Core.b64 (FP.Core.encode FP.Core.b64 (.fin false c q)) = .fin false c' q' ∧ (c ≠ 0 → c' ≠ 0) := by
  have key : ∀ e t : Nat, e ≤ 2046 → t < 4503599627370496 → e * 4503599627370496 + t < 2047 * 4503599627370496 ∧ ∃ c' q', FP.Core.decode FP.Core.b64 (e * 4503599627370496 + t) = .fin false c' q' ∧ (e = 0 → c' = t) ∧ (e ≠ 0 → c' ≠ 0) := by
    intro e t he ht
    refine ⟨by omega, ?_⟩
    have d1 : (e * 4503599627370496 + t) / 4503599627370496 = e := by omega
    have d2 : (e * 4503599627370496 + t) % 4503599627370496 = t := by omega
    unfold FP.Core.decode FP.Core.fieldE FP.Core.fieldT FP.Core.fieldS
    rw [fp_t, fp_e, d1, d2, show e % 2048 = e by omega, show e / 2048 = 0 by omega, if_neg (by omega)]
    by_cases e0 : e = 0
    · rw [if_pos e0]
      exact ⟨_, _, rfl, fun _ => rfl, fun h => absurd e0 h⟩
    · rw [if_neg e0]
      exact ⟨_, _, rfl, fun h => absurd h e0, fun _ => by omega⟩
  by_cases h : c < 4503599627370496
  · have ee : FP.Core.encode FP.Core.b64 (.fin false c q) = 0 * 4503599627370496 + c := by
      show (if c < FP.Core.b64.tails then FP.Core.assemble FP.Core.b64 false 0 c else _) = _
      rw [fp_t, if_pos h]
      unfold FP.Core.assemble
      rw [fp_t, fp_e]
      rfl
    rw [ee]
    obtain ⟨k1, c', q', k2, k3, _⟩ := key 0 c (by omega) h
    exact ⟨k1, c', q', k2, fun hc => by rw [k3 rfl]; exact hc⟩
  · have ee : FP.Core.encode FP.Core.b64 (.fin false c q) = ((q - FP.Core.b64.qmin).toNat + 1) * 4503599627370496 + (c - 4503599627370496) := by
      show (if c < FP.Core.b64.tails then _ else FP.Core.assemble FP.Core.b64 false ((q - FP.Core.b64.qmin).toNat + 1) (c - FP.Core.b64.tails)) = _
      rw [fp_t, if_neg h]
      unfold FP.Core.assemble
      rw [fp_t, fp_e, Bool.toNat_false, Nat.zero_mul, Nat.zero_add]
    rw [ee]
    obtain ⟨k1, c', q', k2, _, k4⟩ := key ((q - FP.Core.b64.qmin).toNat + 1) (c - 4503599627370496) (by rw [fp_qn]; omega) (by omega)
    exact ⟨k1, c', q', k2, fun _ => k4 (Nat.succ_ne_zero _)⟩
theorem fp_settle (c : Nat) (q : Int) : FP.Core.encode FP.Core.b64 (FP.Core.settle FP.Core.b64 false c q) ≤ 2047 * 4503599627370496 := by
  have inf : FP.Core.encode FP.Core.b64 (.inf false) ≤ 2047 * 4503599627370496 := by decide
  have b : ∀ (c : Nat) (q : Int), c < 9007199254740992 → FP.Core.encode FP.Core.b64 (FP.Core.bound FP.Core.b64 false c q) ≤ 2047 * 4503599627370496 := by
    intro c q hc
    unfold FP.Core.bound
    rw [fp_qx]
    split
    · rename_i h
      have := (fp_enc hc h).1
      omega
    · exact inf
  unfold FP.Core.settle
  rw [fp_p, fp_t]
  split
  · rename_i h; exact b c q h
  · exact b _ _ (by decide)
theorem fp_ratio (n d : Nat) (e : Int) : FP.Core.encode FP.Core.b64 (FP.Core.roundRatio FP.Core.b64 false n d e) ≤ 2047 * 4503599627370496 := by
  unfold FP.Core.roundRatio
  split
  · rw [fp_qn]
    have := (fp_enc (c := 0) (q := -1074) (by decide) (by decide)).1
    omega
  · exact fp_settle _ _
theorem fp_l2d {x : Int} (hx : 0 ≤ x ∧ x ≤ 2147483647) : ∃ c q, FP.Core.decode FP.Core.b64 (FP.l2d (Int64.ofInt x)).toNat = .fin false c q ∧ (x ≠ 0 → c ≠ 0) := by
  have e1 : FP.l2d (Int64.ofInt x) = UInt64.ofNat (FP.Core.fromInt FP.Core.b64 x) := by
    show UInt64.ofNat (FP.Core.fromInt FP.Core.b64 (Int64.ofInt x).toInt) = _
    rw [i64_toInt (by omega)]
  obtain ⟨n, rfl⟩ := Int.eq_ofNat_of_zero_le hx.1
  have e2 : FP.Core.fromInt FP.Core.b64 (n : Int) = FP.Core.encode FP.Core.b64 (FP.Core.roundRatio FP.Core.b64 false n 1 0) := by
    unfold FP.Core.fromInt FP.Core.ofInt
    rw [decide_eq_false (by omega)]
    rfl
  have hle := fp_ratio n 1 0
  have e3 : (FP.l2d (Int64.ofInt (n : Int))).toNat = FP.Core.encode FP.Core.b64 (FP.Core.roundRatio FP.Core.b64 false n 1 0) := by
    rw [e1, e2, UInt64.toNat_ofNat', Nat.mod_eq_of_lt (by omega)]
  rw [e3]
  unfold FP.Core.roundRatio
  by_cases h0 : n = 0
  · rw [if_pos h0, fp_qn]
    obtain ⟨_, c, q, h1, h2⟩ := fp_enc (c := 0) (q := -1074) (by decide) (by decide)
    exact ⟨c, q, h1, fun h => by omega⟩
  · rw [if_neg h0]
    have hl : FP.Core.leading n 1 ≤ 31 := by
      have h1 : n.log2 < 32 := (Nat.log2_lt h0).mpr (by omega)
      have h2 : Nat.log2 1 = 0 := by decide
      have h3 : ∀ (P : Prop) [Decidable P] (k : Int), k ≤ 31 → (if P then k else k - 1) ≤ 31 := by
        intro P _ k hk
        split <;> omega
      exact h3 _ _ (by rw [h2]; omega)
    have hq : FP.Core.quantum FP.Core.b64 n 1 0 ≤ 0 := by
      unfold FP.Core.quantum
      rw [fp_qn, show ((FP.Core.b64.p : Nat) : Int) = 53 from by decide]
      omega
    unfold FP.Core.roundAt
    have hu : FP.Core.unitsDen 1 0 (FP.Core.quantum FP.Core.b64 n 1 0) = 1 := by
      unfold FP.Core.unitsDen
      rw [show (FP.Core.quantum FP.Core.b64 n 1 0 - 0).toNat = 0 by omega]
    have hn : FP.Core.nearest (FP.Core.unitsNum n 0 (FP.Core.quantum FP.Core.b64 n 1 0)) 1 ≠ 0 := by
      have : 0 < FP.Core.unitsNum n 0 (FP.Core.quantum FP.Core.b64 n 1 0) := by
        unfold FP.Core.unitsNum
        exact Nat.mul_pos (by omega) (Nat.two_pow_pos _)
      unfold FP.Core.nearest
      rw [Nat.mod_one, if_pos (by decide), Nat.div_one]
      omega
    rw [hu]
    have b : ∀ (c : Nat) (q : Int), c < 9007199254740992 → q ≤ 971 → c ≠ 0 → ∃ c' q', FP.Core.decode FP.Core.b64 (FP.Core.encode FP.Core.b64 (FP.Core.bound FP.Core.b64 false c q)) = .fin false c' q' ∧ ((n : Int) ≠ 0 → c' ≠ 0) := by
      intro c q hc hq hc0
      unfold FP.Core.bound
      rw [fp_qx, if_pos hq]
      obtain ⟨_, c', q', h1, h2⟩ := fp_enc hc hq
      exact ⟨c', q', h1, fun _ => h2 hc0⟩
    unfold FP.Core.settle
    rw [fp_p, fp_t]
    split
    · rename_i h; exact b _ _ h (by omega) hn
    · exact b _ _ (by decide) (by omega) (by decide)
/-- a quotient of two whole numbers is a number -/
theorem fp_div {x y : Int} (hx : 0 ≤ x ∧ x ≤ 2147483647) (hy : 0 < y ∧ y ≤ 2147483647) : vf_n64 (FP.ddiv (FP.l2d (Int64.ofInt x)) (FP.l2d (Int64.ofInt y))) := by
  obtain ⟨c, q, h1, _⟩ := fp_l2d hx
  obtain ⟨d, r, h2, h3⟩ := fp_l2d (x := y) (by omega)
  have hd : d ≠ 0 := h3 (by omega)
  have hle := fp_ratio c d (q - r)
  have e : FP.Core.div FP.Core.b64 (FP.l2d (Int64.ofInt x)).toNat (FP.l2d (Int64.ofInt y)).toNat = FP.Core.encode FP.Core.b64 (FP.Core.roundRatio FP.Core.b64 false c d (q - r)) := by
    unfold FP.Core.div
    rw [h1, h2]
    unfold FP.Core.quotient
    simp only [hd, if_false]
    rfl
  unfold vf_n64
  show UInt64.ofNat (FP.Core.div FP.Core.b64 _ _) &&& 0x7fffffffffffffff ≤ 0x7ff0000000000000
  rw [e, UInt64.le_iff_toNat_le, UInt64.toNat_and, UInt64.toNat_ofNat', Nat.mod_eq_of_lt (by omega)]
  refine Nat.le_trans Nat.and_le_left ?_
  exact hle
