/-! THE MODEL: bits, basinsOf -/
set_option maxRecDepth 100000
theorem clr_nat {n l : Nat} (h1 : n.testBit l = true) (h2 : ∀ j, j < l → n.testBit j = false) (j : Nat) : (n &&& (n - 1)).testBit j = (n.testBit j && decide (j ≠ l)) := by
  have hz : n % 2 ^ l = 0 := by
    apply Nat.eq_of_testBit_eq
    intro i
    rw [Nat.testBit_mod_two_pow, Nat.zero_testBit]
    by_cases e : i < l
    · rw [h2 i e]; simp
    · simp [e]
  have hq : n / 2 ^ l % 2 = 1 := by
    rw [Nat.testBit_eq_decide_div_mod_eq] at h1
    simpa using h1
  have hp : 0 < 2 ^ l := Nat.two_pow_pos l
  have hn : n = 2 ^ l * (n / 2 ^ l) + 0 := by
    have := Nat.div_add_mod n (2 ^ l)
    omega
  obtain ⟨q, hq2⟩ : ∃ q, n / 2 ^ l = 2 * q + 1 := ⟨n / 2 ^ l / 2, by omega⟩
  rw [hq2] at hn
  have hn1 : n - 1 = 2 ^ l * (2 * q) + (2 ^ l - 1) := by
    rw [Nat.mul_add] at hn
    omega
  rw [Nat.testBit_and, hn1, Nat.testBit_two_pow_mul_add _ (by omega)]
  by_cases a : j < l
  · rw [h2 j a]; simp
  · rw [if_neg a]
    have e : n.testBit j = (2 * q + 1).testBit (j - l) := by
      conv => lhs; rw [hn]
      rw [Nat.testBit_two_pow_mul_add _ hp, if_neg a]
    rw [e]
    by_cases b : j = l
    · subst b
      simp
    · obtain ⟨i, hi⟩ : ∃ i, j - l = i + 1 := ⟨j - l - 1, by omega⟩
      rw [hi, Nat.testBit_succ, Nat.testBit_succ, show (2 * q + 1) / 2 = q by omega, show 2 * q / 2 = q by omega]
      simp [b]
theorem clr_S {m l : Int} (hm : okS m) (hl : isLow m l) : okS (andZ m (m - 1)) ∧ ∀ j, 0 ≤ j → (inS (andZ m (m - 1)) j ↔ inS m j ∧ j ≠ l) := by
  refine ⟨okS_and hm, fun j hj => ?_⟩
  obtain ⟨n, rfl⟩ := Int.eq_ofNat_of_zero_le hm.1
  obtain ⟨k, rfl⟩ := Int.eq_ofNat_of_zero_le hj
  obtain ⟨l, rfl⟩ := Int.eq_ofNat_of_zero_le hl.1.1
  have h1 : n.testBit l = true := hl.2.1
  have h := clr_nat h1 (fun j hj => by
    have := hl.2.2 j (by omega)
    unfold inS at this
    simpa using this) k
  have e : andZ (n : Int) ((n : Int) - 1) = ((n &&& (n - 1) : Nat) : Int) := by
    unfold andZ
    rw [Int.toNat_natCast, show ((n : Int) - 1).toNat = n - 1 by omega]
  rw [e]
  unfold inS
  rw [Int.toNat_natCast, Int.toNat_natCast, Int.toNat_natCast, h, Bool.and_eq_true, decide_eq_true_eq]
  exact ⟨fun q => ⟨q.1, fun e => q.2 (by omega)⟩, fun q => ⟨q.1, fun e => q.2 (by omega)⟩⟩
/-- how many cells -/
noncomputable def bcZ (m : Int) : Int := cntP (fun c => inS m c) 36
theorem cntP_rm {p q : Int → Prop} {l : Int} (hl : 0 ≤ l) (pl : p l) (h : ∀ j, 0 ≤ j → (q j ↔ p j ∧ j ≠ l)) : ∀ n : Nat, cntP q n = cntP p n - (if l < n then 1 else 0)
  | 0 => by
    rw [if_neg (by omega)]
    rfl
  | n + 1 => by
    have ih := cntP_rm hl pl h n
    have hn : ((n : Int)).toNat = n := by omega
    by_cases e : l = n
    · have h1 := cntP_y (p := p) (c := n) (by omega) (e ▸ pl)
      have h2 := cntP_n (p := q) (c := n) (by omega) (fun f => ((h n (by omega)).mp f).2 e.symm)
      rw [tn_s (by omega), hn] at h1 h2
      rw [h1, h2, ih, if_neg (by omega), if_pos (by omega)]
      omega
    · by_cases f : p n
      · have h1 := cntP_y (p := p) (c := n) (by omega) f
        have h2 := cntP_y (p := q) (c := n) (by omega) ((h n (by omega)).mpr ⟨f, fun g => e g.symm⟩)
        rw [tn_s (by omega), hn] at h1 h2
        rw [h1, h2, ih]
        split <;> split <;> omega
      · have h1 := cntP_n (p := p) (c := n) (by omega) f
        have h2 := cntP_n (p := q) (c := n) (by omega) (fun g => f ((h n (by omega)).mp g).1)
        rw [tn_s (by omega), hn] at h1 h2
        rw [h1, h2, ih]
        split <;> split <;> omega
theorem bcZ_s {m : Int} (hm : okS m) (h0 : m ≠ 0) : bcZ (andZ m (m - 1)) = bcZ m - 1 ∧ andZ m (m - 1) < m ∧ 1 ≤ bcZ m := by
  have hl := lowZ_p hm h0
  have hc := clr_S hm hl
  have h1 := cntP_rm (p := fun c => inS m c) (q := fun c => inS (andZ m (m - 1)) c) hl.1.1 hl.2.1 hc.2 36
  have h2 := (cntP_r (fun c => inS (andZ m (m - 1)) c) 36).1
  rw [if_pos (by have := hl.1.2; omega)] at h1
  refine ⟨h1, ?_, ?_⟩
  · have : (m.toNat &&& (m - 1).toNat) ≤ (m - 1).toNat := Nat.and_le_right
    unfold andZ
    have := hm.1
    omega
  · unfold bcZ; omega
theorem bcZ_0 : bcZ 0 = 0 := by
  have : ∀ n : Nat, cntP (fun c => inS 0 c) n = 0 := by
    intro n
    induction n with
    | zero => rfl
    | succ n ih =>
      have h := cntP_n (p := fun c => inS 0 c) (c := n) (by omega) (inS_0 n)
      rw [tn_s (by omega), show ((n : Int)).toNat = n by omega] at h
      rw [h, ih]
  exact this 36
set_option maxHeartbeats 4000000 in
theorem ct_bits {g : GV} (hg : GOk g) {m : Int} (hm : okS m) : CSi g yX5_bits cX5_bits 5 0 .int [jV m] (fun z => z = bcZ m) := by
  refine ws_ofi hg (by decide +kernel) (Nat.le_of_ble_eq_true rfl) (fun F G R9 => ?_)
  have G : FxOk g F cX5_bits RX5 5 0 := G
  refine wp_loc (L' := [(0, _)]) rfl ?_
  have loop : ∀ (n : Nat) (m2 k : Int), (okS m2) → (k + bcZ m2 = bcZ m) → (m2 + 1 ≤ n) → Wp g F [] 0 0 4 [(3, jV m2), (2, iV k)] [] := by
    intro n
    induction n with
    | zero =>
      intro m2 k hm2 hk hn
      exfalso
      omega
    | succ n ih =>
      intro m2 k hm2 hk hn
      have hb := hm2
      refine wp_lload_n (pc := 4) G dX5_bits_4 rfl 0 rfl ?_
      refine wp_lconst0 (pc := 5) G dX5_bits_5 ?_
      refine wp_lcmp_eq (tgt := 22) (pc := 6) G dX5_bits_6 dX5_bits_7 (by omega) (by omega) (by decide) (fun h_6 => ?_) (fun h_6 => ?_)
      · refine wp_iload_n (pc := 22) G dX5_bits_22 rfl 1 rfl ?_
        exact ws_iret (pc := 23) G R9 dX5_bits_23 (by rw [h_6, bcZ_0] at hk; omega)
      · have hs := bcZ_s hm2 h_6
        have hm21 := hm2.1
        refine wp_iinc (L' := [(2, _), (3, _)]) (pc := 10) G dX5_bits_10 1 rfl (by decide) rfl ?_
        refine wp_lload_n (pc := 13) G dX5_bits_13 rfl 1 rfl ?_
        refine wp_lload_n (pc := 14) G dX5_bits_14 rfl 1 rfl ?_
        refine wp_lconst1 (pc := 15) G dX5_bits_15 ?_
        refine wp_lsub (pc := 16) G dX5_bits_16 ?_
        refine wp_land (pc := 17) G dX5_bits_17 hm2.1 (by omega) ?_
        refine wp_lstore_n (L' := [(3, _), (2, _)]) (pc := 18) G dX5_bits_18 rfl (by decide) rfl ?_
        refine wp_goto (tgt := 4) (pc := 19) G dX5_bits_19 (by decide) ?_
        exact ih _ (k + 1) (okS_and hm2) (by omega) (by omega)
  refine wp_iconst (pc := 0) G dX5_bits_0 ?_
  refine wp_istore_n (L' := [(2, _), (0, _)]) (pc := 1) G dX5_bits_1 rfl (by decide) rfl ?_
  refine wp_lload_n (pc := 2) G dX5_bits_2 rfl 1 rfl ?_
  refine wp_lstore_n (L' := [(3, _), (2, _), (0, _)]) (pc := 3) G dX5_bits_3 rfl (by decide) rfl ?_
  refine wp_sub (L' := [(3, _), (2, _)]) [0, 1] rfl ?_
  exact loop 68719476737 m 0 hm (by omega) (by have := hm.2; omega)
