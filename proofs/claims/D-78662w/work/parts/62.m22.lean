/-! THE CALLS OF THE MODEL: digest, deepest -/
set_option maxRecDepth 100000
/-- values taken up, n of them -/
def dgS (f : Int → Int) : Nat → Int → Int
  | 0, h => h
  | n + 1, h => 31 * dgS f n h + f n
noncomputable def dgC (az : Int → Int) : Nat → Int → Int
  | 0, h => h
  | n + 1, h => dgS (fun w => cellZ az n w) 6 (dgC az n h)
noncomputable def dgK (az : Int → Int) : Nat → Int → Int
  | 0, h => h
  | n + 1, h => 31 * (31 * (31 * dgS (fun w => lkV az (ordK az n) w) 10 (dgK az n h) + az (152 + ordK az n)) + lvZ az (ordK az n) 0) + lvZ az (ordK az n) 1
noncomputable def dgZ (az : Int → Int) (tl sv : Int) : Int := 31 * dgS (fun w => balZ az w) 4 (dgK az (nL az).toNat (dgC az (mny az).toNat (dgS (fun w => countZ az w) 7 (31 * 3049 + tl)))) + sv
theorem dgS_s {f : Int → Int} {k h : Int} (hk : 0 ≤ k) : 31 * dgS f k.toNat h + f k = dgS f (k + 1).toNat h := by
  obtain ⟨n, rfl⟩ := Int.eq_ofNat_of_zero_le hk
  rw [tn_s hk]
  rfl
theorem dgC_s {az : Int → Int} {k h : Int} (hk : 0 ≤ k) : dgS (fun w => cellZ az k w) 6 (dgC az k.toNat h) = dgC az (k + 1).toNat h := by
  obtain ⟨n, rfl⟩ := Int.eq_ofNat_of_zero_le hk
  rw [tn_s hk]
  rfl
theorem dgK_s {az : Int → Int} {k h : Int} (hk : 0 ≤ k) : 31 * (31 * (31 * dgS (fun w => lkV az (ordK az k) w) 10 (dgK az k.toNat h) + az (152 + ordK az k)) + lvZ az (ordK az k) 0) + lvZ az (ordK az k) 1 = dgK az (k + 1).toNat h := by
  obtain ⟨n, rfl⟩ := Int.eq_ofNat_of_zero_le hk
  rw [tn_s hk]
  rfl
set_option maxHeartbeats 4000000 in
theorem ct_digest {g : GV} (hg : GOk g) {ad : Nat → Nat} {M : Nat → Int → Int} (hA : okA (M 0)) (hW : waterZ (M 0) ≤ 1000000) (hB : okB (M 0)) (h3 : 0 ≤ M 3 0 ∧ M 3 0 ≤ 4) (hX : okX0 M) : CMl g ad yX5_digest cX5_digest 6 8 [] M (fun z M' => fr SC M M' ∧ M' 4 0 = 0 ∧ z = dgZ (M 0) (M 21 0) (M 3 0)) := by
  refine wm_ofl hg (by decide +kernel) (Nat.le_of_ble_eq_true rfl) (fun F G R9 => ?_)
  have G : FxOk g F cX5_digest RX5 6 8 := G
  refine wp_loc (L' := [(0, _)]) rfl ?_
  have hmm := hA.L.m
  have hnL := nL_r hA.L
  have loop4 : ∀ (n : Nat) (k : Int) (M1 : Nat → Int → Int), (0 ≤ k ∧ k ≤ 4) → (5 ≤ k + n) → (fr [4, 6, 7, 8, 11, 12, 13, 14] M M1) → (M1 4 0 = 0) → Wp g F [MB g ad M1] 0 0 189 [(4, iV k), (1, jV (dgS (fun w => balZ (M 0) w) k.toNat (dgK (M 0) (nL (M 0)).toNat (dgC (M 0) (mny (M 0)).toNat (dgS (fun w => countZ (M 0) w) 7 (31 * 3049 + M 21 0)))))), (0, .ref (ad 25))] [] := by
    intro n
    induction n with
    | zero =>
      intro k M1 hk hn hf h4
      exfalso
      omega
    | succ n ih =>
      intro k M1 hk hn hf h4
      have hz : M1 0 = M 0 := hf 0 (by decide)
      refine wp_iload (pc := 189) G dX5_digest_189 0 rfl ?_
      refine wp_iconst (pc := 191) G dX5_digest_191 ?_
      refine wp_icmp_ge (tgt := 212) (pc := 192) G dX5_digest_192 (by omega) (by omega) (by decide) (fun h_192 => ?_) (fun h_192 => ?_)
      · refine wp_lload_n (pc := 212) G dX5_digest_212 rfl 1 rfl ?_
        refine wp_aload_n (pc := 213) G dX5_digest_213 rfl 2 rfl ?_
        refine wm_get_3 (pc := 214) G dX5_digest_214 fX5_58_4 ?_
        refine wp_i2l (pc := 217) G dX5_digest_217 (by rw [hf 3 (by decide)]; omega) ?_
        refine ws_calll2 (pc := 218) G dX5_digest_218 kX5_337 (ct_sums hg) (by decide) (by decide) (Nat.le_of_ble_eq_true rfl) (fun z_218 h_218 => ?_)
        subst h_218
        exact wm_lret (pc := 221) G R9 dX5_digest_221 ⟨hf.up (by decide), h4, by rw [hf 3 (by decide), show k = 4 by omega]; rfl⟩
      · refine wp_lload_n (pc := 195) G dX5_digest_195 rfl 1 rfl ?_
        refine wp_aload_n (pc := 196) G dX5_digest_196 rfl 2 rfl ?_
        refine wp_iload (pc := 197) G dX5_digest_197 0 rfl ?_
        refine wm_calll1 (pc := 199) G dX5_digest_199 kX5_251 (ct_balanceOf hg (by rw [hz]; exact hA.K (by omega)) (by omega)) (by decide) (by decide) (Nat.le_of_ble_eq_true rfl) (fun z_199 M_199 h_199 => ?_)
        obtain ⟨rfl, h_199⟩ := h_199
        rw [hz] at h_199
        subst h_199
        refine ws_calll2 (pc := 202) G dX5_digest_202 kX5_337 (ct_sums hg) (by decide) (by decide) (Nat.le_of_ble_eq_true rfl) (fun z_202 h_202 => ?_)
        subst h_202
        refine wp_lstore_n (L' := [(1, _), (4, _), (0, _)]) (pc := 205) G dX5_digest_205 rfl (by decide) rfl ?_
        refine wp_iinc (L' := [(4, _), (1, _), (0, _)]) (pc := 206) G dX5_digest_206 1 rfl (by decide) rfl ?_
        refine wp_goto (tgt := 189) (pc := 209) G dX5_digest_209 (by decide) ?_
        rw [dgS_s (f := fun w => balZ (M 0) w) hk.1]
        exact ih (k + 1) M1 (by omega) (by omega) hf h4
  have loop3 : ∀ (n : Nat) (k : Int) (M1 : Nat → Int → Int), (0 ≤ k ∧ k ≤ nL (M 0)) → (nL (M 0) + 1 ≤ k + n) → (fr [4, 6, 7, 8, 11, 12, 13, 14] M M1) → (M1 4 0 = 0) → (∀ j, 0 ≤ j ∧ j < nL (M 0) → M1 11 j = ordK (M 0) j) → Wp g F [MB g ad M1] 0 0 99 [(4, iV k), (1, jV (dgK (M 0) k.toNat (dgC (M 0) (mny (M 0)).toNat (dgS (fun w => countZ (M 0) w) 7 (31 * 3049 + M 21 0))))), (0, .ref (ad 25)), (3, iV (nL (M 0)))] [] := by
    intro n
    induction n with
    | zero =>
      intro k M1 hk hn hf h4 ho
      exfalso
      omega
    | succ n ih =>
      intro k M1 hk hn hf h4 ho
      have hz : M1 0 = M 0 := hf 0 (by decide)
      refine wp_iload (pc := 99) G dX5_digest_99 0 rfl ?_
      refine wp_iload_n (pc := 101) G dX5_digest_101 rfl 3 rfl ?_
      refine wp_icmp_ge (tgt := 186) (pc := 102) G dX5_digest_102 (by omega) (by omega) (by decide) (fun h_102 => ?_) (fun h_102 => ?_)
      · refine wp_iconst (pc := 186) G dX5_digest_186 ?_
        refine wp_istore (L' := [(4, _), (1, _), (0, _), (3, _)]) (pc := 187) G dX5_digest_187 (by decide) rfl ?_
        refine wp_sub (L' := [(4, _), (1, _), (0, _)]) [0, 1, 2] rfl ?_
        rw [show k = nL (M 0) by omega]
        exact loop4 5 0 M1 (by omega) (by omega) hf h4
      · refine wp_iconst (pc := 105) G dX5_digest_105 ?_
        refine wp_istore (L' := [(5, _), (4, _), (1, _), (0, _), (3, _)]) (pc := 106) G dX5_digest_106 (by decide) rfl ?_
        refine wp_sub (L' := [(5, _), (1, _), (0, _), (4, _), (3, _)]) [0, 2, 3, 1, 4] rfl ?_
        have inner3 : ∀ (n : Nat) (j : Int) (M2 : Nat → Int → Int), (0 ≤ j ∧ j ≤ 10) → (11 ≤ j + n) → (fr [4, 6, 7, 8, 11, 12, 13, 14] M M2) → (M2 4 0 = 0) → (∀ j, 0 ≤ j ∧ j < nL (M 0) → M2 11 j = ordK (M 0) j) → Wp g F [MB g ad M2] 0 0 108 [(5, iV j), (1, jV (dgS (fun w => lkV (M 0) (ordK (M 0) k) w) j.toNat (dgK (M 0) k.toNat (dgC (M 0) (mny (M 0)).toNat (dgS (fun w => countZ (M 0) w) 7 (31 * 3049 + M 21 0)))))), (0, .ref (ad 25)), (4, iV k), (3, iV (nL (M 0)))] [] := by
          intro n
          induction n with
          | zero =>
            intro j M2 hj hn2 hf2 h42 ho2
            exfalso
            omega
          | succ n ih2 =>
            intro j M2 hj hn2 hf2 h42 ho2
            have hz2 : M2 0 = M 0 := hf2 0 (by decide)
            refine wp_iload (pc := 108) G dX5_digest_108 0 rfl ?_
            refine wp_bipush (pc := 110) G dX5_digest_110 (by decide) ?_
            refine wp_icmp_ge (tgt := 135) (pc := 112) G dX5_digest_112 (by omega) (by omega) (by decide) (fun h_112 => ?_) (fun h_112 => ?_)
            · have ej : j = 10 := by omega
              subst ej
              have hkk := ordK_k hA.L (n := k) (by omega)
              have hkk1 := hkk.1
              refine wp_lload_n (pc := 135) G dX5_digest_135 rfl 1 rfl ?_
              refine wp_aload_n (pc := 136) G dX5_digest_136 rfl 2 rfl ?_
              refine wm_get_0 (pc := 137) G dX5_digest_137 fX5_7_4 ?_
              refine wp_sipush (pc := 140) G dX5_digest_140 (by decide) ?_
              refine wp_aload_n (pc := 143) G dX5_digest_143 rfl 2 rfl ?_
              refine wm_get_11 (pc := 144) G dX5_digest_144 fX5_29_4 ?_
              refine wp_iload (pc := 147) G dX5_digest_147 3 rfl ?_
              refine wm_ald_11 (pc := 149) G dX5_digest_149 (by omega) ?_
              rw [ho2 k (by omega)]
              refine wp_iadd (pc := 150) G dX5_digest_150 ?_
              refine wm_ald_0 (pc := 151) G dX5_digest_151 (by omega) ?_
              rw [hz2]
              refine ws_calll2 (pc := 152) G dX5_digest_152 kX5_337 (ct_sums hg) (by decide) (by decide) (Nat.le_of_ble_eq_true rfl) (fun z_152 h_152 => ?_)
              subst h_152
              refine wp_lstore_n (L' := [(1, _), (5, _), (0, _), (4, _), (3, _)]) (pc := 155) G dX5_digest_155 rfl (by decide) rfl ?_
              refine wp_lload_n (pc := 156) G dX5_digest_156 rfl 0 rfl ?_
              refine wp_aload_n (pc := 157) G dX5_digest_157 rfl 2 rfl ?_
              refine wp_iload (pc := 158) G dX5_digest_158 3 rfl ?_
              refine wp_iconst (pc := 160) G dX5_digest_160 ?_
              refine wm_calli2 (pc := 161) G dX5_digest_161 kX5_269 (ct_levelPart hg (by rw [hz2]; exact hA) (by rw [hz2]; omega) (by rw [hz2]; omega) (Or.inl rfl)) (by decide) (by decide) (Nat.le_of_ble_eq_true rfl) (fun z_161 M_161 h_161 => ?_)
              obtain ⟨h161f, h161, o161⟩ := h_161
              rw [hz2] at h161 o161
              subst h161
              have hrg1 := lvZ_r hA (by omega) hkk 0
              have hz3 : M_161 0 = M 0 := by rw [h161f 0 (by decide), hz2]
              refine wp_i2l (pc := 164) G dX5_digest_164 (by omega) ?_
              refine ws_calll2 (pc := 165) G dX5_digest_165 kX5_337 (ct_sums hg) (by decide) (by decide) (Nat.le_of_ble_eq_true rfl) (fun z_165 h_165 => ?_)
              subst h_165
              refine wp_aload_n (pc := 168) G dX5_digest_168 rfl 2 rfl ?_
              refine wp_iload (pc := 169) G dX5_digest_169 3 rfl ?_
              refine wp_iconst (pc := 171) G dX5_digest_171 ?_
              refine wm_calli2 (pc := 172) G dX5_digest_172 kX5_269 (ct_levelPart hg (by rw [hz3]; exact hA) (by rw [hz3]; omega) (by rw [hz3]; omega) (Or.inr rfl)) (by decide) (by decide) (Nat.le_of_ble_eq_true rfl) (fun z_172 M_172 h_172 => ?_)
              obtain ⟨h172f, h172, o172⟩ := h_172
              rw [hz3] at h172 o172
              subst h172
              have hrg2 := lvZ_r hA (by omega) hkk 1
              refine wp_i2l (pc := 175) G dX5_digest_175 (by omega) ?_
              refine ws_calll2 (pc := 176) G dX5_digest_176 kX5_337 (ct_sums hg) (by decide) (by decide) (Nat.le_of_ble_eq_true rfl) (fun z_176 h_176 => ?_)
              subst h_176
              refine wp_lstore_n (L' := [(1, _), (5, _), (0, _), (4, _), (3, _)]) (pc := 179) G dX5_digest_179 rfl (by decide) rfl ?_
              refine wp_iinc (L' := [(4, _), (1, _), (5, _), (0, _), (3, _)]) (pc := 180) G dX5_digest_180 3 rfl (by decide) rfl ?_
              refine wp_goto (tgt := 99) (pc := 183) G dX5_digest_183 (by decide) ?_
              refine wp_sub (L' := [(4, _), (1, _), (0, _), (3, _)]) [0, 1, 3, 4] rfl ?_
              show Wp g F [MB g ad M_172] 0 0 99 [(4, iV (k + 1)), (1, jV (31 * (31 * (31 * dgS (fun w => lkV (M 0) (ordK (M 0) k) w) 10 (dgK (M 0) k.toNat (dgC (M 0) (mny (M 0)).toNat (dgS (fun w => countZ (M 0) w) 7 (31 * 3049 + M 21 0)))) + M 0 (152 + ordK (M 0) k)) + lvZ (M 0) (ordK (M 0) k) 0) + lvZ (M 0) (ordK (M 0) k) 1)), (0, .ref (ad 25)), (3, iV (nL (M 0)))] []
              rw [dgK_s (az := M 0) hk.1]
              exact ih (k + 1) M_172 (by omega) (by omega) ((hf2.tr (h161f.up (by decide))).tr (h172f.up (by decide))) (by rw [h172f 4 (by decide), h161f 4 (by decide)]; exact h42) o172
            · refine wp_lload_n (pc := 115) G dX5_digest_115 rfl 1 rfl ?_
              refine wp_aload_n (pc := 116) G dX5_digest_116 rfl 2 rfl ?_
              refine wp_iload (pc := 117) G dX5_digest_117 3 rfl ?_
              refine wp_iload (pc := 119) G dX5_digest_119 0 rfl ?_
              refine wm_calli2 (pc := 121) G dX5_digest_121 kX5_262 (ct_lakeValue hg (by rw [hz2]; exact hA) (by rw [hz2]; omega) (by rw [hz2]; exact hB) (by rw [hz2]; omega) (by omega)) (by decide) (by decide) (Nat.le_of_ble_eq_true rfl) (fun z_121 M_121 h_121 => ?_)
              obtain ⟨h121f, h121, o121⟩ := h_121
              rw [hz2] at h121 o121
              subst h121
              have hrg := lkV_r hA (by omega) (ordK_k hA.L (n := k) (by omega)) j
              refine wp_i2l (pc := 124) G dX5_digest_124 (by omega) ?_
              refine ws_calll2 (pc := 125) G dX5_digest_125 kX5_337 (ct_sums hg) (by decide) (by decide) (Nat.le_of_ble_eq_true rfl) (fun z_125 h_125 => ?_)
              subst h_125
              refine wp_lstore_n (L' := [(1, _), (5, _), (0, _), (4, _), (3, _)]) (pc := 128) G dX5_digest_128 rfl (by decide) rfl ?_
              refine wp_iinc (L' := [(5, _), (1, _), (0, _), (4, _), (3, _)]) (pc := 129) G dX5_digest_129 1 rfl (by decide) rfl ?_
              refine wp_goto (tgt := 108) (pc := 132) G dX5_digest_132 (by decide) ?_
              rw [dgS_s (f := fun w => lkV (M 0) (ordK (M 0) k) w) hj.1]
              exact ih2 (j + 1) M_121 (by omega) (by omega) (hf2.tr (h121f.up (by decide))) (by rw [h121f 4 (by decide)]; exact h42) o121
        exact inner3 11 0 M1 (by omega) (by omega) hf h4 ho
  have loop2 : ∀ (n : Nat) (k : Int) (M1 : Nat → Int → Int), (0 ≤ k ∧ k ≤ mny (M 0)) → (mny (M 0) + 1 ≤ k + n) → (fr [4, 6, 7, 8, 11, 12, 13, 14] M M1) → (M1 4 0 = 0) → Wp g F [MB g ad M1] 0 0 44 [(3, iV k), (1, jV (dgC (M 0) k.toNat (dgS (fun w => countZ (M 0) w) 7 (31 * 3049 + M 21 0)))), (0, .ref (ad 25))] [] := by
    intro n
    induction n with
    | zero =>
      intro k M1 hk hn hf h4
      exfalso
      omega
    | succ n ih =>
      intro k M1 hk hn hf h4
      have hz : M1 0 = M 0 := hf 0 (by decide)
      refine wp_iload_n (pc := 44) G dX5_digest_44 rfl 0 rfl ?_
      refine wp_aload_n (pc := 45) G dX5_digest_45 rfl 2 rfl ?_
      refine wm_calli0 (pc := 46) G dX5_digest_46 kX5_61 (ct_many hg) (by decide) (by decide) (Nat.le_of_ble_eq_true rfl) (fun z_46 M_46 h_46 => ?_)
      obtain ⟨rfl, h_46⟩ := h_46
      rw [hz] at h_46
      subst h_46
      refine wp_icmp_ge (tgt := 87) (pc := 49) G dX5_digest_49 (by omega) (by omega) (by decide) (fun h_49 => ?_) (fun h_49 => ?_)
      · refine wp_aload_n (pc := 87) G dX5_digest_87 rfl 2 rfl ?_
        refine wm_callv0 (pc := 88) G dX5_digest_88 kX5_152 (ct_orders hg (by rw [hz]; exact hA.L) (by rw [hz]; exact hA.K (by omega))) (by decide) (by decide) (Nat.le_of_ble_eq_true rfl) (fun M_88 h_88 => ?_)
        have e12 : M_88 12 0 = nL (M 0) := by rw [h_88.2.1, hz]
        have o88 : ∀ j, 0 ≤ j ∧ j < nL (M 0) → M_88 11 j = ordK (M 0) j := fun j hj => by
          rw [ordK_e (by rw [hz]; exact hA.L) h_88 (by rw [hz]; exact hj), hz]
        refine wp_aload_n (pc := 91) G dX5_digest_91 rfl 2 rfl ?_
        refine wm_get_12 (pc := 92) G dX5_digest_92 fX5_149_4 ?_
        rw [e12]
        refine wp_istore_n (L' := [(3, _), (1, _), (0, _)]) (pc := 95) G dX5_digest_95 rfl (by decide) rfl ?_
        refine wp_iconst (pc := 96) G dX5_digest_96 ?_
        refine wp_istore (L' := [(4, _), (3, _), (1, _), (0, _)]) (pc := 97) G dX5_digest_97 (by decide) rfl ?_
        refine wp_sub (L' := [(4, _), (1, _), (0, _), (3, _)]) [0, 2, 3, 1] rfl ?_
        rw [show k = mny (M 0) by omega]
        exact loop3 38 0 M_88 (by omega) (by omega) (hf.tr (h_88.1.up (by decide))) (by rw [h_88.1 4 (by decide)]; exact h4) o88
      · refine wp_iconst (pc := 52) G dX5_digest_52 ?_
        refine wp_istore (L' := [(4, _), (3, _), (1, _), (0, _)]) (pc := 53) G dX5_digest_53 (by decide) rfl ?_
        refine wp_sub (L' := [(4, _), (1, _), (0, _), (3, _)]) [0, 2, 3, 1] rfl ?_
        have hkc : isC (M 0) k := ⟨hk.1, h_49⟩
        have inner2 : ∀ (n : Nat) (j : Int) (M2 : Nat → Int → Int), (0 ≤ j ∧ j ≤ 6) → (7 ≤ j + n) → (fr [4, 6, 7, 8, 11, 12, 13, 14] M M2) → (M2 4 0 = 0) → Wp g F [MB g ad M2] 0 0 55 [(4, iV j), (1, jV (dgS (fun w => cellZ (M 0) k w) j.toNat (dgC (M 0) k.toNat (dgS (fun w => countZ (M 0) w) 7 (31 * 3049 + M 21 0))))), (0, .ref (ad 25)), (3, iV k)] [] := by
          intro n
          induction n with
          | zero =>
            intro j M2 hj hn2 hf2 h42
            exfalso
            omega
          | succ n ih2 =>
            intro j M2 hj hn2 hf2 h42
            have hz2 : M2 0 = M 0 := hf2 0 (by decide)
            refine wp_iload (pc := 55) G dX5_digest_55 0 rfl ?_
            refine wp_bipush (pc := 57) G dX5_digest_57 (by decide) ?_
            refine wp_icmp_ge (tgt := 81) (pc := 59) G dX5_digest_59 (by omega) (by omega) (by decide) (fun h_59 => ?_) (fun h_59 => ?_)
            · refine wp_iinc (L' := [(3, _), (4, _), (1, _), (0, _)]) (pc := 81) G dX5_digest_81 3 rfl (by decide) rfl ?_
              refine wp_goto (tgt := 44) (pc := 84) G dX5_digest_84 (by decide) ?_
              refine wp_sub (L' := [(3, _), (1, _), (0, _)]) [0, 2, 3] rfl ?_
              have ej : j = 6 := by omega
              subst ej
              show Wp g F [MB g ad M2] 0 0 44 [(3, iV (k + 1)), (1, jV (dgS (fun w => cellZ (M 0) k w) 6 (dgC (M 0) k.toNat (dgS (fun w => countZ (M 0) w) 7 (31 * 3049 + M 21 0))))), (0, .ref (ad 25))] []
              rw [dgC_s (az := M 0) hk.1]
              exact ih (k + 1) M2 (by omega) (by omega) hf2 h42
            · refine wp_lload_n (pc := 62) G dX5_digest_62 rfl 1 rfl ?_
              refine wp_aload_n (pc := 63) G dX5_digest_63 rfl 2 rfl ?_
              refine wp_iload_n (pc := 64) G dX5_digest_64 rfl 3 rfl ?_
              refine wp_iload (pc := 65) G dX5_digest_65 0 rfl ?_
              refine wm_calli2 (pc := 67) G dX5_digest_67 kX5_216 (ct_cellValue hg (by rw [hz2]; exact hA) (by rw [hz2]; omega) (by rw [hz2]; exact hkc) (by omega)) (by decide) (by decide) (Nat.le_of_ble_eq_true rfl) (fun z_67 M_67 h_67 => ?_)
              obtain ⟨h67f, h67⟩ := h_67
              rw [hz2] at h67
              subst h67
              have hrg := cellZ_r hA hB hkc j
              refine wp_i2l (pc := 70) G dX5_digest_70 (by omega) ?_
              refine ws_calll2 (pc := 71) G dX5_digest_71 kX5_337 (ct_sums hg) (by decide) (by decide) (Nat.le_of_ble_eq_true rfl) (fun z_71 h_71 => ?_)
              subst h_71
              refine wp_lstore_n (L' := [(1, _), (4, _), (0, _), (3, _)]) (pc := 74) G dX5_digest_74 rfl (by decide) rfl ?_
              refine wp_iinc (L' := [(4, _), (1, _), (0, _), (3, _)]) (pc := 75) G dX5_digest_75 1 rfl (by decide) rfl ?_
              refine wp_goto (tgt := 55) (pc := 78) G dX5_digest_78 (by decide) ?_
              rw [dgS_s (f := fun w => cellZ (M 0) k w) hj.1]
              exact ih2 (j + 1) M_67 (by omega) (by omega) (hf2.tr (h67f.up (by decide))) (by rw [h67f 4 (by decide)]; exact h42)
        exact inner2 7 0 M1 (by omega) (by omega) hf h4
  have loop1 : ∀ (n : Nat) (k : Int) (M1 : Nat → Int → Int), (0 ≤ k ∧ k ≤ 7) → (8 ≤ k + n) → (fr [4, 6, 7, 8, 11, 12, 13, 14] M M1) → (M1 4 0 = 0) → Wp g F [MB g ad M1] 0 0 19 [(3, iV k), (1, jV (dgS (fun w => countZ (M 0) w) k.toNat (31 * 3049 + M 21 0))), (0, .ref (ad 25))] [] := by
    intro n
    induction n with
    | zero =>
      intro k M1 hk hn hf h4
      exfalso
      omega
    | succ n ih =>
      intro k M1 hk hn hf h4
      have hz : M1 0 = M 0 := hf 0 (by decide)
      refine wp_iload_n (pc := 19) G dX5_digest_19 rfl 0 rfl ?_
      refine wp_bipush (pc := 20) G dX5_digest_20 (by decide) ?_
      refine wp_icmp_ge (tgt := 42) (pc := 22) G dX5_digest_22 (by omega) (by omega) (by decide) (fun h_22 => ?_) (fun h_22 => ?_)
      · refine wp_iconst (pc := 42) G dX5_digest_42 ?_
        refine wp_istore_n (L' := [(3, _), (1, _), (0, _)]) (pc := 43) G dX5_digest_43 rfl (by decide) rfl ?_
        rw [show k = 7 by omega]
        exact loop2 38 0 M1 (by omega) (by omega) hf h4
      · refine wp_lload_n (pc := 25) G dX5_digest_25 rfl 1 rfl ?_
        refine wp_aload_n (pc := 26) G dX5_digest_26 rfl 2 rfl ?_
        refine wp_iload_n (pc := 27) G dX5_digest_27 rfl 0 rfl ?_
        refine wm_calli1 (pc := 28) G dX5_digest_28 kX5_225 (ct_countOf hg (by rw [hz]; exact hA.L) (by rw [hz]; exact hA.K (by omega)) (by rw [hz]; exact hB) (by omega)) (by decide) (by decide) (Nat.le_of_ble_eq_true rfl) (fun z_28 M_28 h_28 => ?_)
        obtain ⟨h28f, h28⟩ := h_28
        rw [hz] at h28
        subst h28
        have hrg := countZ_r hA k
        refine wp_i2l (pc := 31) G dX5_digest_31 (by omega) ?_
        refine ws_calll2 (pc := 32) G dX5_digest_32 kX5_337 (ct_sums hg) (by decide) (by decide) (Nat.le_of_ble_eq_true rfl) (fun z_32 h_32 => ?_)
        subst h_32
        refine wp_lstore_n (L' := [(1, _), (3, _), (0, _)]) (pc := 35) G dX5_digest_35 rfl (by decide) rfl ?_
        refine wp_iinc (L' := [(3, _), (1, _), (0, _)]) (pc := 36) G dX5_digest_36 1 rfl (by decide) rfl ?_
        refine wp_goto (tgt := 19) (pc := 39) G dX5_digest_39 (by decide) ?_
        rw [dgS_s (f := fun w => countZ (M 0) w) hk.1]
        exact ih (k + 1) M_28 (by omega) (by omega) (hf.tr (h28f.up (by decide))) (by rw [h28f 4 (by decide)]; exact h4)
  refine wp_aload_n (pc := 0) G dX5_digest_0 rfl 0 rfl ?_
  refine wp_iconst (pc := 1) G dX5_digest_1 ?_
  refine wm_put_4 (pc := 2) G dX5_digest_2 fX5_54_4 ?_
  refine wp_ldc2 (z := 3049) (pc := 5) G dX5_digest_5 q2503 (by decide +kernel) ?_
  refine wp_aload_n (pc := 8) G dX5_digest_8 rfl 0 rfl ?_
  refine wm_get_21 (pc := 9) G dX5_digest_9 fX5_288_4 ?_
  refine wp_i2l (pc := 12) G dX5_digest_12 (by have := hX.1; show -2147483648 ≤ M 21 0 ∧ M 21 0 ≤ 2147483647; omega) ?_
  refine ws_calll2 (pc := 13) G dX5_digest_13 kX5_337 (ct_sums hg) (by decide) (by decide) (Nat.le_of_ble_eq_true rfl) (fun z_13 h_13 => ?_)
  subst h_13
  refine wp_lstore_n (L' := [(1, _), (0, _)]) (pc := 16) G dX5_digest_16 rfl (by decide) rfl ?_
  refine wp_iconst (pc := 17) G dX5_digest_17 ?_
  refine wp_istore_n (L' := [(3, _), (1, _), (0, _)]) (pc := 18) G dX5_digest_18 rfl (by decide) rfl ?_
  exact loop1 8 0 _ (by omega) (by omega) (fr.rf.s1 (by decide)) rfl
