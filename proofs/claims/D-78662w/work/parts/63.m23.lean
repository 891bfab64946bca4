/-! THE CALLS OF THE MODEL: deepest -/
set_option maxRecDepth 100000
/-- the level of the lake k: above, below -/
noncomputable def lvS (az : Int → Int) (k : Int) : Int := @Classical.epsilon Int ⟨0⟩ (fun S => ∃ B, LV az (az (152 + k)) (az (224 + k)) S B)
noncomputable def lvB (az : Int → Int) (k : Int) : Int := @Classical.epsilon Int ⟨0⟩ (fun B => ∃ S, LV az (az (152 + k)) (az (224 + k)) S B)
theorem lvS_e {az : Int → Int} {k S B : Int} (h : LV az (az (152 + k)) (az (224 + k)) S B) : S = lvS az k ∧ B = lvB az k := by
  obtain ⟨B', h1⟩ := Classical.epsilon_spec (p := fun S => ∃ B, LV az (az (152 + k)) (az (224 + k)) S B) ⟨S, B, h⟩
  obtain ⟨S', h2⟩ := Classical.epsilon_spec (p := fun B => ∃ S, LV az (az (152 + k)) (az (224 + k)) S B) ⟨B, S, h⟩
  exact ⟨(LV_u h h1).1, (LV_u h h2).2⟩
/-- the depth at c, times lvB -/
noncomputable def dpN (az : Int → Int) (c : Int) : Int := lvS az (lakeZ az c) - lvB az (lakeZ az c) * hgt az c
noncomputable def dpF (az : Int → Int) : Nat → Int × Int × Int
  | 0 => (-1, 0, 1)
  | n + 1 => @ite _ (wetP az n ∧ ((dpF az n).1 = -1 ∨ (dpF az n).2.1 * lvB az (lakeZ az n) < dpN az n * (dpF az n).2.2)) (Classical.propDecidable _) ((n : Int), dpN az n, lvB az (lakeZ az n)) (dpF az n)
theorem dpF_y {az : Int → Int} {c : Int} (hc : 0 ≤ c) (h : wetP az c ∧ ((dpF az c.toNat).1 = -1 ∨ (dpF az c.toNat).2.1 * lvB az (lakeZ az c) < dpN az c * (dpF az c.toNat).2.2)) : dpF az (c + 1).toNat = (c, dpN az c, lvB az (lakeZ az c)) := by
  obtain ⟨n, rfl⟩ := Int.eq_ofNat_of_zero_le hc
  rw [tn_s hc]
  exact if_pos h
theorem dpF_n {az : Int → Int} {c : Int} (hc : 0 ≤ c) (h : ¬ (wetP az c ∧ ((dpF az c.toNat).1 = -1 ∨ (dpF az c.toNat).2.1 * lvB az (lakeZ az c) < dpN az c * (dpF az c.toNat).2.2))) : dpF az (c + 1).toNat = dpF az c.toNat := by
  obtain ⟨n, rfl⟩ := Int.eq_ofNat_of_zero_le hc
  rw [tn_s hc]
  exact if_neg h
theorem wet_r {az : Int → Int} (hA : okA az) (hW : waterZ az ≤ 4000000) {c : Int} (hc : isC az c) (h : wetP az c) : (0 < dpN az c ∧ dpN az c ≤ 4003564) ∧ (1 ≤ lvB az (lakeZ az c) ∧ lvB az (lakeZ az c) ≤ 36) := by
  obtain ⟨h1, S, B, h2, h3⟩ := h
  rcases lakeZ_p (az := az) c with e | e
  · exact absurd e h1
  · have hv := ((hA.K hW).1 _ e.1).2.1
    have hr := LV_r hA.L h2 hv
    obtain ⟨e1, e2⟩ := lvS_e h2
    have hh := hA.L.hg (hc.lt hA.L)
    have := Int.mul_nonneg (show 0 ≤ B by omega) hh.1
    unfold dpN
    rw [← e1, ← e2]
    omega
theorem dpF_r {az : Int → Int} (hA : okA az) (hW : waterZ az ≤ 4000000) : ∀ n : Nat, (n : Int) ≤ mny az → (-1 ≤ (dpF az n).1 ∧ (dpF az n).1 < 36) ∧ (0 ≤ (dpF az n).2.1 ∧ (dpF az n).2.1 ≤ 4003564) ∧ (1 ≤ (dpF az n).2.2 ∧ (dpF az n).2.2 ≤ 36)
  | 0, _ => by unfold dpF; decide
  | n + 1, hn => by
    have ih := dpF_r hA hW n (by omega)
    have hm := hA.L.m
    unfold dpF
    split
    · rename_i h
      have := wet_r hA hW ⟨by omega, by omega⟩ h.1
      show (-1 ≤ (n : Int) ∧ (n : Int) < 36) ∧ (0 ≤ dpN az n ∧ dpN az n ≤ 4003564) ∧ (1 ≤ lvB az (lakeZ az n) ∧ lvB az (lakeZ az n) ≤ 36)
      omega
    · exact ih
theorem mulr {x y : Int} (hx : 0 ≤ x ∧ x ≤ 4003564) (hy : 0 ≤ y ∧ y ≤ 36) : 0 ≤ x * y ∧ x * y ≤ 144128304 := by
  refine ⟨Int.mul_nonneg hx.1 hy.1, ?_⟩
  have h1 : x * y ≤ x * 36 := Int.mul_le_mul_of_nonneg_left hy.2 hx.1
  omega
set_option maxHeartbeats 4000000 in
theorem ct_deepest {g : GV} (hg : GOk g) {ad : Nat → Nat} {M : Nat → Int → Int} (hA : okA (M 0)) (hW : waterZ (M 0) ≤ 1000000) : CMi g ad yX5_deepest cX5_deepest 9 3 .int [] M (fun z M' => fr SC M M' ∧ M' 4 0 = 0 ∧ z = (dpF (M 0) (mny (M 0)).toNat).1) := by
  refine wm_ofi hg (by decide +kernel) (Nat.le_of_ble_eq_true rfl) (fun F G R9 => ?_)
  have G : FxOk g F cX5_deepest RX5 9 3 := G
  refine wp_loc (L' := [(0, _)]) rfl ?_
  have hmm := hA.L.m
  have hK := hA.K (by omega)
  have loop : ∀ (n : Nat) (c be a b : Int) (M1 : Nat → Int → Int), (0 ≤ c ∧ c ≤ mny (M 0)) → (mny (M 0) + 1 ≤ c + n) → (fr [4, 13, 14] M M1) → (M1 4 0 = 0) → ((be, a, b) = dpF (M 0) c.toNat) → Wp g F [MB g ad M1] 0 0 15 [(6, iV c), (1, iV be), (2, jV a), (4, jV b), (0, .ref (ad 25))] [] := by
    intro n
    induction n with
    | zero =>
      intro c be a b M1 hc hn hf h4 hd
      exfalso
      omega
    | succ n ih =>
      intro c be a b M1 hc hn hf h4 hd
      have hz : M1 0 = M 0 := hf 0 (by decide)
      have hdr := dpF_r hA (by omega) c.toNat (by omega)
      rw [← hd] at hdr
      have hdr : (-1 ≤ be ∧ be < 36) ∧ (0 ≤ a ∧ a ≤ 4003564) ∧ (1 ≤ b ∧ b ≤ 36) := hdr
      refine wp_iload (pc := 15) G dX5_deepest_15 0 rfl ?_
      refine wp_aload_n (pc := 17) G dX5_deepest_17 rfl 4 rfl ?_
      refine wm_calli0 (pc := 18) G dX5_deepest_18 kX5_61 (ct_many hg) (by decide) (by decide) (Nat.le_of_ble_eq_true rfl) (fun z_18 M_18 h_18 => ?_)
      obtain ⟨rfl, h_18⟩ := h_18
      rw [hz] at h_18
      subst h_18
      refine wp_icmp_ge (tgt := 100) (pc := 21) G dX5_deepest_21 (by omega) (by omega) (by decide) (fun h_21 => ?_) (fun h_21 => ?_)
      · refine wp_iload_n (pc := 100) G dX5_deepest_100 rfl 1 rfl ?_
        exact wm_iret (pc := 101) G R9 dX5_deepest_101 ⟨hf.up (by decide), h4, by rw [← show c = mny (M 0) by omega, ← hd]⟩
      · refine wp_aload_n (pc := 24) G dX5_deepest_24 rfl 4 rfl ?_
        refine wp_iload (pc := 25) G dX5_deepest_25 0 rfl ?_
        refine wm_calli1 (pc := 27) G dX5_deepest_27 kX5_165 (ct_isWet hg (by rw [hz]; exact hA.L) (by rw [hz]; exact hK) (by rw [hz]; exact ⟨hc.1, h_21⟩)) (by decide) (by decide) (Nat.le_of_ble_eq_true rfl) (fun z_27 M_27 h_27 => ?_)
        obtain ⟨h27f, h27b⟩ := h_27
        rw [hz] at h27b
        have z27 : M_27 0 = M 0 := by rw [h27f 0 (by decide), hz]
        refine wp_if_eq (tgt := 94) (pc := 30) G dX5_deepest_30 h27b.r (by decide) (fun h_30 => ?_) (fun h_30 => ?_)
        · have h_30 := h27b.f h_30
          refine wp_iinc (L' := [(6, _), (1, _), (2, _), (4, _), (0, _)]) (pc := 94) G dX5_deepest_94 0 rfl (by decide) rfl ?_
          refine wp_goto (tgt := 15) (pc := 97) G dX5_deepest_97 (by decide) ?_
          first
            | (have e9 := dpF_n (az := M 0) hc.1 (fun q => h_30 q.1)
               exact ih (c + 1) be a b M_27 (by omega) (by omega) (hf.tr (h27f.up (by decide))) (by rw [h27f 4 (by decide)]; exact h4) (hd.trans e9.symm))
            | (have e9 := dpF_n (az := M 0) hc.1 (fun q => q.2.elim (fun x => by rw [← hd] at x; exact h_64 x) (fun x => by rw [← hd, ← b9] at x; unfold dpN at x; rw [← s9, ← b9] at x; exact absurd x (by show ¬ a * M_40 14 0 < (M_40 13 0 - M_40 14 0 * hgt (M 0) c) * b; omega)))
               exact ih (c + 1) be a b M_40 (by omega) (by omega) ((hf.tr (h27f.up (by decide))).tr (h40f.up (by decide))) (by rw [h40f 4 (by decide), h27f 4 (by decide)]; exact h4) (hd.trans e9.symm))
            | (have e9 := dpF_y (az := M 0) hc.1 ⟨h_30, Or.inl (by rw [← hd]; exact h_64)⟩
               exact ih (c + 1) c (M_40 13 0 - M_40 14 0 * hgt (M 0) c) (M_40 14 0) M_40 (by omega) (by omega) ((hf.tr (h27f.up (by decide))).tr (h40f.up (by decide))) (by rw [h40f 4 (by decide), h27f 4 (by decide)]; exact h4) (by rw [e9]; unfold dpN; rw [← s9, ← b9]))
            | (have e9 := dpF_y (az := M 0) hc.1 ⟨h_30, Or.inr (by rw [← hd, ← b9]; unfold dpN; rw [← s9, ← b9]; show a * M_40 14 0 < (M_40 13 0 - M_40 14 0 * hgt (M 0) c) * b; omega)⟩
               exact ih (c + 1) c (M_40 13 0 - M_40 14 0 * hgt (M 0) c) (M_40 14 0) M_40 (by omega) (by omega) ((hf.tr (h27f.up (by decide))).tr (h40f.up (by decide))) (by rw [h40f 4 (by decide), h27f 4 (by decide)]; exact h4) (by rw [e9]; unfold dpN; rw [← s9, ← b9]))
        · have h_30 := h27b.t h_30
          have hli := (lakeZ_p (az := M 0) c).resolve_left h_30.1
          have hkk : isK (M 0) (lakeZ (M 0) c) := ⟨hli.1, hli.2.1⟩
          have hki := hli.2.2
          have hcc : 0 ≤ c ∧ c < 36 := by omega
          refine wp_aload_n (pc := 33) G dX5_deepest_33 rfl 4 rfl ?_
          refine wp_aload_n (pc := 34) G dX5_deepest_34 rfl 4 rfl ?_
          refine wp_iload (pc := 35) G dX5_deepest_35 0 rfl ?_
          refine wm_calli1 (pc := 37) G dX5_deepest_37 kX5_133 (ct_lakeOf hg (by rw [z27]; exact hK) (by omega)) (by decide) (by decide) (Nat.le_of_ble_eq_true rfl) (fun z_37 M_37 h_37 => ?_)
          obtain ⟨rfl, h_37⟩ := h_37
          rw [z27] at h_37
          subst h_37
          refine wm_callv1 (pc := 40) G dX5_deepest_40 kX5_162 (ct_levels hg (by rw [z27]; exact hA.L) (by rw [z27]; exact hK) hkk.1 (m := M 0 (152 + lakeZ (M 0) c)) (vol := M 0 (224 + lakeZ (M 0) c)) (by rw [z27]) (by rw [z27]) (by rw [z27]; exact ⟨c, ⟨hc.1, h_21⟩, hki⟩)) (by decide) (by decide) (Nat.le_of_ble_eq_true rfl) (fun M_40 h_40 => ?_)
          obtain ⟨h40f, h40⟩ := h_40
          rw [z27] at h40
          obtain ⟨s9, b9⟩ := lvS_e h40
          have z40 : M_40 0 = M 0 := by rw [h40f 0 (by decide), z27]
          have wr := wet_r hA (by omega) ⟨hc.1, h_21⟩ h_30
          unfold dpN at wr
          rw [← s9, ← b9] at wr
          have m1 := mulr (x := M_40 13 0 - M_40 14 0 * hgt (M 0) c) (y := b) (by omega) (by omega)
          have m2 := mulr (x := a) (y := M_40 14 0) (by omega) (by omega)
          refine wp_aload_n (pc := 43) G dX5_deepest_43 rfl 4 rfl ?_
          refine wm_get_13 (pc := 44) G dX5_deepest_44 fX5_159_4 ?_
          refine wp_aload_n (pc := 47) G dX5_deepest_47 rfl 4 rfl ?_
          refine wm_get_14 (pc := 48) G dX5_deepest_48 fX5_155_4 ?_
          refine wp_aload_n (pc := 51) G dX5_deepest_51 rfl 4 rfl ?_
          refine wp_iload (pc := 52) G dX5_deepest_52 0 rfl ?_
          refine wm_calli1 (pc := 54) G dX5_deepest_54 kX5_87 (ct_height hg (by omega)) (by decide) (by decide) (Nat.le_of_ble_eq_true rfl) (fun z_54 M_54 h_54 => ?_)
          obtain ⟨rfl, h_54⟩ := h_54
          rw [z40] at h_54
          subst h_54
          have hh := hA.L.hg (c := c) (by omega)
          refine wp_i2l (pc := 57) G dX5_deepest_57 (by omega) ?_
          refine wp_lmul (pc := 58) G dX5_deepest_58 ?_
          refine wp_lsub (pc := 59) G dX5_deepest_59 ?_
          refine wp_lstore (L' := [(7, _), (6, _), (1, _), (2, _), (4, _), (0, _)]) (pc := 60) G dX5_deepest_60 (by decide) rfl ?_
          refine wp_iload_n (pc := 62) G dX5_deepest_62 rfl 2 rfl ?_
          refine wp_iconst (pc := 63) G dX5_deepest_63 ?_
          refine wp_icmp_eq (tgt := 82) (pc := 64) G dX5_deepest_64 (by omega) (by omega) (by decide) (fun h_64 => ?_) (fun h_64 => ?_)
          · refine wp_iload (pc := 82) G dX5_deepest_82 1 rfl ?_
            refine wp_istore_n (L' := [(1, _), (7, _), (6, _), (2, _), (4, _), (0, _)]) (pc := 84) G dX5_deepest_84 rfl (by decide) rfl ?_
            refine wp_lload (pc := 85) G dX5_deepest_85 1 rfl ?_
            refine wp_lstore_n (L' := [(2, _), (1, _), (7, _), (6, _), (4, _), (0, _)]) (pc := 87) G dX5_deepest_87 rfl (by decide) rfl ?_
            refine wp_aload_n (pc := 88) G dX5_deepest_88 rfl 5 rfl ?_
            refine wm_get_14 (pc := 89) G dX5_deepest_89 fX5_155_4 ?_
            refine wp_lstore (L' := [(4, _), (2, _), (1, _), (7, _), (6, _), (0, _)]) (pc := 92) G dX5_deepest_92 (by decide) rfl ?_
            refine wp_iinc (L' := [(6, _), (4, _), (2, _), (1, _), (7, _), (0, _)]) (pc := 94) G dX5_deepest_94 4 rfl (by decide) rfl ?_
            refine wp_goto (tgt := 15) (pc := 97) G dX5_deepest_97 (by decide) ?_
            refine wp_sub (L' := [(6, _), (1, _), (2, _), (4, _), (0, _)]) [0, 3, 2, 1, 5] rfl ?_
            first
              | (have e9 := dpF_n (az := M 0) hc.1 (fun q => h_30 q.1)
                 exact ih (c + 1) be a b M_27 (by omega) (by omega) (hf.tr (h27f.up (by decide))) (by rw [h27f 4 (by decide)]; exact h4) (hd.trans e9.symm))
              | (have e9 := dpF_n (az := M 0) hc.1 (fun q => q.2.elim (fun x => by rw [← hd] at x; exact h_64 x) (fun x => by rw [← hd, ← b9] at x; unfold dpN at x; rw [← s9, ← b9] at x; exact absurd x (by show ¬ a * M_40 14 0 < (M_40 13 0 - M_40 14 0 * hgt (M 0) c) * b; omega)))
                 exact ih (c + 1) be a b M_40 (by omega) (by omega) ((hf.tr (h27f.up (by decide))).tr (h40f.up (by decide))) (by rw [h40f 4 (by decide), h27f 4 (by decide)]; exact h4) (hd.trans e9.symm))
              | (have e9 := dpF_y (az := M 0) hc.1 ⟨h_30, Or.inl (by rw [← hd]; exact h_64)⟩
                 exact ih (c + 1) c (M_40 13 0 - M_40 14 0 * hgt (M 0) c) (M_40 14 0) M_40 (by omega) (by omega) ((hf.tr (h27f.up (by decide))).tr (h40f.up (by decide))) (by rw [h40f 4 (by decide), h27f 4 (by decide)]; exact h4) (by rw [e9]; unfold dpN; rw [← s9, ← b9]))
              | (have e9 := dpF_y (az := M 0) hc.1 ⟨h_30, Or.inr (by rw [← hd, ← b9]; unfold dpN; rw [← s9, ← b9]; show a * M_40 14 0 < (M_40 13 0 - M_40 14 0 * hgt (M 0) c) * b; omega)⟩
                 exact ih (c + 1) c (M_40 13 0 - M_40 14 0 * hgt (M 0) c) (M_40 14 0) M_40 (by omega) (by omega) ((hf.tr (h27f.up (by decide))).tr (h40f.up (by decide))) (by rw [h40f 4 (by decide), h27f 4 (by decide)]; exact h4) (by rw [e9]; unfold dpN; rw [← s9, ← b9]))
          · refine wp_lload (pc := 67) G dX5_deepest_67 0 rfl ?_
            refine wp_lload (pc := 69) G dX5_deepest_69 4 rfl ?_
            refine wp_lmul (pc := 71) G dX5_deepest_71 ?_
            refine wp_lload_n (pc := 72) G dX5_deepest_72 rfl 3 rfl ?_
            refine wp_aload_n (pc := 73) G dX5_deepest_73 rfl 5 rfl ?_
            refine wm_get_14 (pc := 74) G dX5_deepest_74 fX5_155_4 ?_
            refine wp_lmul (pc := 77) G dX5_deepest_77 ?_
            refine wp_lcmp_le (tgt := 94) (pc := 78) G dX5_deepest_78 dX5_deepest_79 (by omega) (by omega) (by decide) (fun h_78 => ?_) (fun h_78 => ?_)
            · refine wp_iinc (L' := [(6, _), (7, _), (1, _), (2, _), (4, _), (0, _)]) (pc := 94) G dX5_deepest_94 1 rfl (by decide) rfl ?_
              refine wp_goto (tgt := 15) (pc := 97) G dX5_deepest_97 (by decide) ?_
              refine wp_sub (L' := [(6, _), (1, _), (2, _), (4, _), (0, _)]) [0, 2, 3, 4, 5] rfl ?_
              first
                | (have e9 := dpF_n (az := M 0) hc.1 (fun q => h_30 q.1)
                   exact ih (c + 1) be a b M_27 (by omega) (by omega) (hf.tr (h27f.up (by decide))) (by rw [h27f 4 (by decide)]; exact h4) (hd.trans e9.symm))
                | (have e9 := dpF_n (az := M 0) hc.1 (fun q => q.2.elim (fun x => by rw [← hd] at x; exact h_64 x) (fun x => by rw [← hd, ← b9] at x; unfold dpN at x; rw [← s9, ← b9] at x; exact absurd x (by show ¬ a * M_40 14 0 < (M_40 13 0 - M_40 14 0 * hgt (M 0) c) * b; omega)))
                   exact ih (c + 1) be a b M_40 (by omega) (by omega) ((hf.tr (h27f.up (by decide))).tr (h40f.up (by decide))) (by rw [h40f 4 (by decide), h27f 4 (by decide)]; exact h4) (hd.trans e9.symm))
                | (have e9 := dpF_y (az := M 0) hc.1 ⟨h_30, Or.inl (by rw [← hd]; exact h_64)⟩
                   exact ih (c + 1) c (M_40 13 0 - M_40 14 0 * hgt (M 0) c) (M_40 14 0) M_40 (by omega) (by omega) ((hf.tr (h27f.up (by decide))).tr (h40f.up (by decide))) (by rw [h40f 4 (by decide), h27f 4 (by decide)]; exact h4) (by rw [e9]; unfold dpN; rw [← s9, ← b9]))
                | (have e9 := dpF_y (az := M 0) hc.1 ⟨h_30, Or.inr (by rw [← hd, ← b9]; unfold dpN; rw [← s9, ← b9]; show a * M_40 14 0 < (M_40 13 0 - M_40 14 0 * hgt (M 0) c) * b; omega)⟩
                   exact ih (c + 1) c (M_40 13 0 - M_40 14 0 * hgt (M 0) c) (M_40 14 0) M_40 (by omega) (by omega) ((hf.tr (h27f.up (by decide))).tr (h40f.up (by decide))) (by rw [h40f 4 (by decide), h27f 4 (by decide)]; exact h4) (by rw [e9]; unfold dpN; rw [← s9, ← b9]))
            · refine wp_iload (pc := 82) G dX5_deepest_82 1 rfl ?_
              refine wp_istore_n (L' := [(1, _), (7, _), (6, _), (2, _), (4, _), (0, _)]) (pc := 84) G dX5_deepest_84 rfl (by decide) rfl ?_
              refine wp_lload (pc := 85) G dX5_deepest_85 1 rfl ?_
              refine wp_lstore_n (L' := [(2, _), (1, _), (7, _), (6, _), (4, _), (0, _)]) (pc := 87) G dX5_deepest_87 rfl (by decide) rfl ?_
              refine wp_aload_n (pc := 88) G dX5_deepest_88 rfl 5 rfl ?_
              refine wm_get_14 (pc := 89) G dX5_deepest_89 fX5_155_4 ?_
              refine wp_lstore (L' := [(4, _), (2, _), (1, _), (7, _), (6, _), (0, _)]) (pc := 92) G dX5_deepest_92 (by decide) rfl ?_
              refine wp_iinc (L' := [(6, _), (4, _), (2, _), (1, _), (7, _), (0, _)]) (pc := 94) G dX5_deepest_94 4 rfl (by decide) rfl ?_
              refine wp_goto (tgt := 15) (pc := 97) G dX5_deepest_97 (by decide) ?_
              refine wp_sub (L' := [(6, _), (1, _), (2, _), (4, _), (0, _)]) [0, 3, 2, 1, 5] rfl ?_
              first
                | (have e9 := dpF_n (az := M 0) hc.1 (fun q => h_30 q.1)
                   exact ih (c + 1) be a b M_27 (by omega) (by omega) (hf.tr (h27f.up (by decide))) (by rw [h27f 4 (by decide)]; exact h4) (hd.trans e9.symm))
                | (have e9 := dpF_n (az := M 0) hc.1 (fun q => q.2.elim (fun x => by rw [← hd] at x; exact h_64 x) (fun x => by rw [← hd, ← b9] at x; unfold dpN at x; rw [← s9, ← b9] at x; exact absurd x (by show ¬ a * M_40 14 0 < (M_40 13 0 - M_40 14 0 * hgt (M 0) c) * b; omega)))
                   exact ih (c + 1) be a b M_40 (by omega) (by omega) ((hf.tr (h27f.up (by decide))).tr (h40f.up (by decide))) (by rw [h40f 4 (by decide), h27f 4 (by decide)]; exact h4) (hd.trans e9.symm))
                | (have e9 := dpF_y (az := M 0) hc.1 ⟨h_30, Or.inl (by rw [← hd]; exact h_64)⟩
                   exact ih (c + 1) c (M_40 13 0 - M_40 14 0 * hgt (M 0) c) (M_40 14 0) M_40 (by omega) (by omega) ((hf.tr (h27f.up (by decide))).tr (h40f.up (by decide))) (by rw [h40f 4 (by decide), h27f 4 (by decide)]; exact h4) (by rw [e9]; unfold dpN; rw [← s9, ← b9]))
                | (have e9 := dpF_y (az := M 0) hc.1 ⟨h_30, Or.inr (by rw [← hd, ← b9]; unfold dpN; rw [← s9, ← b9]; show a * M_40 14 0 < (M_40 13 0 - M_40 14 0 * hgt (M 0) c) * b; omega)⟩
                   exact ih (c + 1) c (M_40 13 0 - M_40 14 0 * hgt (M 0) c) (M_40 14 0) M_40 (by omega) (by omega) ((hf.tr (h27f.up (by decide))).tr (h40f.up (by decide))) (by rw [h40f 4 (by decide), h27f 4 (by decide)]; exact h4) (by rw [e9]; unfold dpN; rw [← s9, ← b9]))
  refine wp_aload_n (pc := 0) G dX5_deepest_0 rfl 0 rfl ?_
  refine wp_iconst (pc := 1) G dX5_deepest_1 ?_
  refine wm_put_4 (pc := 2) G dX5_deepest_2 fX5_54_4 ?_
  refine wp_iconst (pc := 5) G dX5_deepest_5 ?_
  refine wp_istore_n (L' := [(1, _), (0, _)]) (pc := 6) G dX5_deepest_6 rfl (by decide) rfl ?_
  refine wp_lconst0 (pc := 7) G dX5_deepest_7 ?_
  refine wp_lstore_n (L' := [(2, _), (1, _), (0, _)]) (pc := 8) G dX5_deepest_8 rfl (by decide) rfl ?_
  refine wp_lconst1 (pc := 9) G dX5_deepest_9 ?_
  refine wp_lstore (L' := [(4, _), (2, _), (1, _), (0, _)]) (pc := 10) G dX5_deepest_10 (by decide) rfl ?_
  refine wp_iconst (pc := 12) G dX5_deepest_12 ?_
  refine wp_istore (L' := [(6, _), (4, _), (2, _), (1, _), (0, _)]) (pc := 13) G dX5_deepest_13 (by decide) rfl ?_
  refine wp_sub (L' := [(6, _), (1, _), (2, _), (4, _), (0, _)]) [0, 3, 2, 1, 4] rfl ?_
  exact loop 38 0 (-1) 0 1 _ (by omega) (by omega) (fr.rf.s1 (by decide)) rfl rfl
