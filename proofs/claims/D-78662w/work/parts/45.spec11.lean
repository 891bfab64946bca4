/-! POURING: it ends -/
set_option maxRecDepth 100000
section SP11
variable {az az' : Int → Int}
/-- how far pouring into k is from its end -/
def mu (az : Int → Int) (k : Int) : Int := sm (tpF az) 72 * 1000000 + sm (nfF az) 72 * 1000 + (if k ≠ -1 ∧ az (224 + k) = capZ az (az (152 + k)) then 2 + (pass az (az (152 + k))).1 else 0)
/-- pouring has ended so -/
def Pours (az : Int → Int) (k r : Int) (Z : Int → Int) : Prop := ∃ n, pourO n az k r = some Z
theorem pourO_s : ∀ (n : Nat) (az : Int → Int) (k r : Int) (Z : Int → Int), pourO n az k r = some Z → pourO (n + 1) az k r = some Z
  | 0, _, _, _, _, h => by unfold pourO at h; cases h
  | n + 1, az, k, r, Z, h => by
    unfold pourO at h
    unfold pourO
    split
    · rename_i q; rw [if_pos q] at h; exact h
    · rename_i q
      rw [if_neg q] at h
      split
      · rename_i q2; rw [if_pos q2] at h; exact h
      · rename_i q2
        rw [if_neg q2] at h
        split
        · rename_i q3; rw [if_pos q3] at h; exact pourO_s n _ _ _ _ h
        · rename_i q3
          rw [if_neg q3] at h
          split
          · rename_i q4; rw [if_pos q4] at h; exact pourO_s n _ _ _ _ h
          · rename_i q4; rw [if_neg q4] at h; exact pourO_s n _ _ _ _ h
theorem pourO_m {az : Int → Int} {k r : Int} {Z : Int → Int} {n : Nat} (h : pourO n az k r = some Z) : ∀ d : Nat, pourO (n + d) az k r = some Z
  | 0 => h
  | d + 1 => pourO_s _ _ _ _ _ (pourO_m h d)
theorem Pours.u {k r : Int} {Z Z' : Int → Int} (h : Pours az k r Z) (h' : Pours az k r Z') : Z = Z' := by
  obtain ⟨n, h⟩ := h
  obtain ⟨m, h'⟩ := h'
  have h1 := pourO_m h m
  have h2 := pourO_m h' n
  rw [Nat.add_comm] at h2
  rw [h1] at h2
  exact Option.some.inj h2
/-- the lake k of the land az -/
def isK (az : Int → Int) (k : Int) : Prop := (0 ≤ k ∧ k < 72) ∧ az (440 + k) = 1
theorem isK.m (h : okA az) {k : Int} (q : isK az k) : 1 ≤ sm (tpF az) 72 ∧ sm (tpF az) 72 ≤ 36 := by
  have h2 : tpF az k ≤ sm (tpF az) 72 := sm_ge 72 (fun j _ => (tp_r j).1) q.1
  have h3 : tpF az k = 1 := if_pos q.2
  have h4 : sm (tpF az) 72 ≤ sm (usF az) 72 := by
    have : ∀ n : Nat, n ≤ 72 → sm (tpF az) n ≤ sm (usF az) n := by
      intro n
      induction n with
      | zero => intro _; exact Int.le_refl _
      | succ n ih =>
        intro hn
        have := ih (by omega)
        have e : tpF az n ≤ usF az n := by
          unfold tpF usF
          split
          · rename_i e; rw [if_pos (h.n n (by omega) e)]; omega
          · split <;> omega
        unfold sm
        omega
    exact this 72 (Nat.le_refl _)
  have := h.q
  have := h.B
  omega
theorem nf_r72 : 0 ≤ sm (nfF az) 72 := (sm_r (b := 1) 72 (fun k _ => nf_r k)).1
theorem mu_r (h : okA az) (k : Int) : sm (tpF az) 72 * 1000000 + sm (nfF az) 72 * 1000 ≤ mu az k ∧ mu az k ≤ sm (tpF az) 72 * 1000000 + sm (nfF az) 72 * 1000 + 101 := by
  unfold mu
  have := pass_r h.L (az (152 + k))
  split <;> omega
theorem lakeZ_e {c k r : Int} (hk : 0 ≤ k ∧ k < 72) : lakeZ (addF az k r) c = lakeZ az c :=
  lk_e c (fun i hi => ⟨add_b 440 i (by omega) hk hi (by omega), add_b 152 i (by omega) hk hi (by omega)⟩) 72 (Nat.le_refl _)
theorem freeK_e {k r : Int} (hk : 0 ≤ k ∧ k < 72) (h : ∃ j : Int, (0 ≤ j ∧ j < 72) ∧ az (152 + j) = 0) : freeK (addF az k r) = freeK az := by
  obtain ⟨h1, h2, h3⟩ := freeK_p h
  refine (freeK_u h1 ?_ (fun j hj => ?_)).symm
  · rw [add_b 152 _ (by omega) hk h1 (by omega)]; exact h2
  · rw [add_b 152 _ (by omega) hk (by omega) (by omega)]; exact h3 j hj
/-- pouring into a full lake, or less than it takes, or until it's full -/
theorem addZ_r (h : okA az) {k r : Int} (q : isK az k) (hr : 0 < r) : 0 ≤ addZ az k r ∧ addZ az k r ≤ r ∧ (capZ az (az (152 + k)) = -1 ∨ az (224 + k) + addZ az k r ≤ capZ az (az (152 + k))) ∧ (addZ az k r < r → capZ az (az (152 + k)) ≠ -1 ∧ az (224 + k) + addZ az k r = capZ az (az (152 + k))) := by
  have := h.c k q.1
  have := h.v k q.1
  have := capZ_r h.L (az (152 + k))
  unfold addZ
  split
  · omega
  · split <;> omega
theorem jn_ok (h : okA az) {k r : Int} (q : isK az k) (hr : 0 < r) (hlt : addZ az k r < r) (hj : jnP (addF az k (addZ az k r)) k (lakeZ az (pass az (az (152 + k))).2.2)) : okA (addF az k (addZ az k r)) ∧ jnOk (addF az k (addZ az k r)) k (lakeZ az (pass az (az (152 + k))).2.2) := by
  obtain ⟨a1, a2, a3, a4⟩ := addZ_r h q hr
  have a4 := a4 hlt
  have hA := h.add q.1 q.2 a1 a3
  have hb : sameB az (addF az k (addZ az k r)) := add_B q.1
  have eL := hb.L.cz h.L
  have eP := hb.L.pa h.L
  obtain ⟨j1, j2, j3⟩ := hj
  rcases lakeZ_p (az := az) (pass az (az (152 + k))).2.2 with e | ⟨e1, e2, e3⟩
  · exact absurd e j1
  have hne : k ≠ lakeZ az (pass az (az (152 + k))).2.2 := by
    intro e
    rw [← e] at e3
    rcases pass_at h.L (az (152 + k)) with p | ⟨a, s, _, _, _, _, p5, p⟩
    · exact a4.1 ((capZ_n h.L).mpr (by rw [p]))
    · rw [p] at e3; exact p5 e3
  refine ⟨hA, q.1, e1, hne, ?_, ?_, ?_, j2, j3.symm⟩
  · rw [add_b 440 k (by omega) q.1 q.1 (by omega)]; exact q.2
  · rw [add_b 440 _ (by omega) q.1 e1 (by omega)]; exact e2
  · rw [add_v, if_pos rfl, add_b 152 k (by omega) q.1 q.1 (by omega), eL]; exact a4.2
theorem nf_add (h : okA az) {k r : Int} (q : isK az k) (hc : az (224 + k) + r = capZ az (az (152 + k))) : sm (nfF (addF az k r)) 72 = sm (nfF az) 72 - nfF az k := by
  have hb : sameB az (addF az k r) := add_B q.1
  have eL := hb.L.cz h.L
  rw [sm_1 (f := nfF az) 72 q.1 (fun j hj e => by unfold nfF; rw [add_b 440 j (by omega) q.1 hj (by omega), add_v, if_neg e, add_b 152 j (by omega) q.1 hj (by omega), eL, Int.add_zero])]
  have : nfF (addF az k r) k = 0 := by
    unfold nfF
    rw [add_v, if_pos rfl, add_b 152 k (by omega) q.1 q.1 (by omega), eL]
    exact if_neg (fun e => e.2 hc)
  omega
theorem tp_add {k r : Int} (hk : 0 ≤ k ∧ k < 72) : sm (tpF (addF az k r)) 72 = sm (tpF az) 72 := sm_e 72 (fun i hi => by unfold tpF; rw [add_b 440 i (by omega) hk hi (by omega)])
/-- pouring ends, and what holds still does -/
theorem pour_ends : ∀ (m : Nat) (az : Int → Int) (k r : Int), okA az → (k = -1 ∨ isK az k) → 0 ≤ r → (k ≠ -1 → mu az k ≤ m) → ∃ Z, pourO (m + 3) az k r = some Z ∧ okA Z ∧ sameB az Z ∧ Z 4 = az 4 ∧ Z 5 = az 5 ∧ waterZ Z + Z 3 = waterZ az + az 3 + r ∧ az 3 ≤ Z 3 ∧ 0 ≤ waterZ Z
  | m, az, k, r, h, hk, hr, hm => by
    have hw0 : ∀ b : Int → Int, okA b → 0 ≤ waterZ b := fun b hb => by
      rw [water_sm]
      have : ∀ n : Nat, n ≤ 72 → 0 ≤ sm (wtF b) n := by
        intro n
        induction n with
        | zero => intro _; exact Int.le_refl _
        | succ n ih =>
          intro hn
          have := ih (by omega)
          have h9 := hb.v n (by omega)
          have : 0 ≤ wtF b n := by unfold wtF; split <;> omega
          show 0 ≤ sm (wtF b) n + wtF b n
          omega
      exact this 72 (Nat.le_refl _)
    by_cases r0 : r ≤ 0
    · refine ⟨az, ?_, h, sameB.rf, rfl, rfl, by omega, Int.le_refl _, hw0 az h⟩
      unfold pourO; rw [if_pos r0]
    by_cases k1 : k = -1
    · have hb : sameB az (fup az 3 (az 3 + r)) := sameB.rf.f (by omega)
      have hK : okA (fup az 3 (az 3 + r)) := h.to hb (fun j hj => fup_n _ _ (by omega))
      refine ⟨fup az 3 (az 3 + r), ?_, hK, hb, fup_n _ _ (by omega), fup_n _ _ (by omega), ?_, ?_, hw0 _ hK⟩
      · unfold pourO; rw [if_neg r0, if_pos k1]
      · have : waterZ (fup az 3 (az 3 + r)) = waterZ az := by
          rw [water_sm, water_sm]
          exact sm_e 72 (fun i hi => by unfold wtF; rw [fup_n _ _ (by omega), fup_n _ _ (by omega)])
        rw [this, fup_s]; omega
      · rw [fup_s]; omega
    have q : isK az k := hk.resolve_left k1
    have hm := hm k1
    obtain ⟨a1, a2, a3, a4⟩ := addZ_r h q (r := r) (by omega)
    have hA := h.add q.1 q.2 a1 a3
    have hb : sameB az (addF az k (addZ az k r)) := add_B q.1
    have eL := hb.L.cz h.L
    have eP := hb.L.pa h.L
    have h345 : ∀ j, j < 152 → addF az k (addZ az k r) j = az j := fun j hj => add_n (by have := q.1; omega)
    have hwA : waterZ (addF az k (addZ az k r)) = waterZ az + addZ az k r := add_w q.1 q.2
    have hT := q.m h
    have hN := nf_r72 (az := az)
    have hmu := mu_r h k
    match m with
    | 0 => exfalso; omega
    | m + 1 =>
    have go : ∀ b k', okA b → sameB (addF az k (addZ az k r)) b → (∀ j, 2 < j ∧ j < 152 → b j = addF az k (addZ az k r) j) → waterZ b = waterZ (addF az k (addZ az k r)) → (k' = -1 ∨ isK b k') → (k' ≠ -1 → mu b k' < mu az k) → ∃ Z, pourO (m + 3) b k' (r - addZ az k r) = some Z ∧ okA Z ∧ sameB az Z ∧ Z 4 = az 4 ∧ Z 5 = az 5 ∧ waterZ Z + Z 3 = waterZ az + az 3 + r ∧ az 3 ≤ Z 3 ∧ 0 ≤ waterZ Z := by
      intro b k' hB hs hj hw hk' hmu'
      obtain ⟨Z, z1, z2, z3, z4, z5, z6, z7, z8⟩ := pour_ends m b k' (r - addZ az k r) hB hk' (by omega) (fun e => by have := hmu' e; omega)
      have b3 := (hj 3 (by omega)).trans (h345 3 (by omega))
      have b4 := (hj 4 (by omega)).trans (h345 4 (by omega))
      have b5 := (hj 5 (by omega)).trans (h345 5 (by omega))
      exact ⟨Z, z1, z2, (hb.tr hs).tr z3, by rw [z4, b4], by rw [z5, b5], by omega, by omega, z8⟩
    show ∃ Z, pourO (m + 3 + 1) az k r = some Z ∧ _
    unfold pourO
    rw [if_neg r0, if_neg k1]
    by_cases r1 : r - addZ az k r ≤ 0
    · rw [if_pos r1]
      have er : r - addZ az k r = 0 := by omega
      refine ⟨addF az k (addZ az k r), ?_, hA, hb, h345 4 (by omega), h345 5 (by omega), ?_, ?_, hw0 _ hA⟩
      · unfold pourO; rw [if_pos (by omega)]
      · rw [hwA, h345 3 (by omega)]; omega
      · rw [h345 3 (by omega)]; omega
    rw [if_neg r1]
    have a4 := a4 (by omega)
    have hNA := nf_add h q a4.2
    have hTA : sm (tpF (addF az k (addZ az k r))) 72 = sm (tpF az) 72 := tp_add q.1
    by_cases hj : jnP (addF az k (addZ az k r)) k (lakeZ az (pass az (az (152 + k))).2.2)
    · rw [if_pos hj]
      obtain ⟨_, ok⟩ := jn_ok h q (by omega) (by omega) hj
      have hJ := hA.join ok
      obtain ⟨f1, f2, f3, f4, f5⟩ := ok.fr hA
      have fe := freeK_e (r := addZ az k r) q.1 (h.free q.1 q.2)
      have hT1 := jn_T hA ok
      refine go _ _ hJ (jn_B f1 ok.1 ok.2.1) (fun j hj2 => jn_3 f1 ok.1 ok.2.1 hj2.2) (jn_w hA ok) (Or.inr ⟨by rw [← fe]; exact f1, ?_⟩) (fun _ => ?_)
      · rw [← fe, jn_440 f1 f1, if_neg f4, if_neg f3, if_pos rfl]
      · have := mu_r hJ (freeK az)
        have := nf_tp (az := joinF (addF az k (addZ az k r)) k (lakeZ az (pass az (az (152 + k))).2.2)) 72
        omega
    · rw [if_neg hj]
      rcases lakeZ_p (az := az) (pass az (az (152 + k))).2.2 with e | ⟨e1, e2, e3⟩
      · rw [e]
        exact go _ _ hA sameB.rf (fun _ _ => rfl) rfl (Or.inl rfl) (fun e => absurd rfl e)
      · have hK' : isK (addF az k (addZ az k r)) (lakeZ az (pass az (az (152 + k))).2.2) := ⟨e1, by rw [add_b 440 _ (by omega) q.1 e1 (by omega)]; exact e2⟩
        refine go _ _ hA sameB.rf (fun _ _ => rfl) rfl (Or.inr hK') (fun _ => ?_)
        have hm2 := mu_r hA (lakeZ az (pass az (az (152 + k))).2.2)
        by_cases full : az (224 + k) = capZ az (az (152 + k))
        · have n0 : nfF az k = 0 := if_neg (fun e => e.2 full)
          have e4 : mu az k = sm (tpF az) 72 * 1000000 + sm (nfF az) 72 * 1000 + (2 + (pass az (az (152 + k))).1) := by
            unfold mu; rw [if_pos ⟨k1, full⟩]
          have pk : (pass az (az (152 + k))).1 ≠ -1 := fun e => a4.1 ((capZ_n h.L).mpr e)
          have pr := pass_r h.L (az (152 + k))
          rw [e4]
          unfold mu
          rw [hTA, hNA, n0]
          split
          · rename_i fo
            have hne : k ≠ lakeZ az (pass az (az (152 + k))).2.2 := by
              intro e
              rw [← e] at e3
              rcases pass_at h.L (az (152 + k)) with p | ⟨a, s, _, _, _, _, p5, p⟩
              · rw [p] at pk; exact pk rfl
              · rw [p] at e3; exact p5 e3
            have nb := pass_nb h.L pk e3 (fun c c1 c2 => h.d k _ q.1 e1 q.2 e2 hne c c1 c2)
            have e152 := add_b (az := az) (k := k) (r := addZ az k r) 152 _ (by omega) q.1 e1 (by omega)
            rw [e152, eP]
            have hne2 : (pass az (az (152 + lakeZ az (pass az (az (152 + k))).2.2))).1 ≠ (pass az (az (152 + k))).1 := by
              intro e
              refine hj ⟨fo.1, fo.2, ?_⟩
              rw [e152, eP, eP, add_b 152 _ (by omega) q.1 q.1 (by omega)]
              exact e
            omega
          · omega
        · have n1 : nfF az k = 1 := if_pos ⟨q.2, full⟩
          omega
/-- what pouring onto a cell does -/
theorem pour_ok (h : okA az) (c : Int) {r : Int} (hr : 0 ≤ r) : ∃ Z, Pours az (lakeZ az c) r Z ∧ okA Z ∧ sameB az Z ∧ Z 4 = az 4 ∧ Z 5 = az 5 ∧ waterZ Z + Z 3 = waterZ az + az 3 + r ∧ az 3 ≤ Z 3 ∧ 0 ≤ waterZ Z := by
  have hk : lakeZ az c = -1 ∨ isK az (lakeZ az c) := (lakeZ_p c).imp id (fun q => ⟨q.1, q.2.1⟩)
  obtain ⟨Z, z⟩ := pour_ends (mu az (lakeZ az c)).toNat az (lakeZ az c) r h hk hr (fun _ => by omega)
  exact ⟨Z, ⟨_, z.1⟩, z.2⟩
end SP11
