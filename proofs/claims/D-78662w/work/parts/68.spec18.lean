/-! MORE WATER, NO CELL LESS WET -/
set_option maxRecDepth 100000
section SP18
variable {az az' : Int → Int}
def wtr (az az' : Int → Int) : Prop := ∀ t, isC az t → wetP az t → wetP az' t
theorem sameL.nd (h : sameL az az') (hL : okL az) {m t : Int} (ht : isC az t) : ndZ az' m (hgt az' t) = ndZ az m (hgt az t) := by
  unfold ndZ
  rw [h.m, h.hg (ht.lt hL), h.cs _ (by have := hL.m; omega)]
theorem wtr.tr {b : Int → Int} (h : wtr az az') (hs : sameL az az') (h2 : wtr az' b) : wtr az b := fun t ht hw => h2 t ((hs.c t).mpr ht) (h t ht hw)
theorem wtr.rf : wtr az az := fun _ _ h => h
theorem wtr_add (hA : okA az) {k d d' : Int} (hk : 0 ≤ k ∧ k < 72) (h1 : okA (addF az k d)) (h2 : okA (addF az k d')) (hd : d ≤ d') : wtr (addF az k d) (addF az k d') := by
  intro t ht hw
  have s1 : sameL az (addF az k d) := (add_B hk).L
  have s2 : sameL az (addF az k d') := (add_B hk).L
  have ht0 := (s1.c t).mp ht
  rw [wet_cap h1 ht, lakeZ_e hk, s1.nd hA.L ht0, add_v] at hw
  rw [wet_cap h2 ((s2.c t).mpr ht0), lakeZ_e hk, s2.nd hA.L ht0, add_v]
  obtain ⟨w1, w2⟩ := hw
  have hl := ((lakeZ_p (az := az) t).resolve_left w1).1
  rw [add_b 152 _ (by omega) hk hl (by omega)] at w2
  rw [add_b 152 _ (by omega) hk hl (by omega)]
  refine ⟨w1, ?_⟩
  by_cases e : lakeZ az t = k
  · rw [if_pos e] at w2 ⊢; omega
  · rw [if_neg e] at w2 ⊢; omega
theorem add_0 {k : Int} : addF az k 0 = az := by
  funext j
  unfold addF
  by_cases e : j = 224 + k
  · rw [e, fup_s]; omega
  · rw [fup_n _ _ e]
theorem capS_add {x y p : Int} (hd : ∀ c, inS x c → inS y c → False) : ∀ n : Nat, capS az (orZ x y) p n = capS az x p n + capS az y p n
  | 0 => by unfold capS; omega
  | n + 1 => by
    have ih := capS_add (p := p) hd n
    unfold capS
    by_cases h1 : inS x n
    · have h2 : ¬ inS y n := fun q => hd _ h1 q
      have h3 : inS (orZ x y) n := (inS_or _).mpr (Or.inl h1)
      rw [if_neg (fun q => h2 q.1 : ¬ (inS y n ∧ hgt az n < p))]
      by_cases h4 : hgt az n < p
      · rw [if_pos ⟨h3, h4⟩, if_pos ⟨h1, h4⟩]; omega
      · rw [if_neg (fun q => h4 q.2), if_neg (fun q => h4 q.2)]; omega
    · rw [if_neg (fun q => h1 q.1 : ¬ (inS x n ∧ hgt az n < p))]
      by_cases h2 : inS y n
      · have h3 : inS (orZ x y) n := (inS_or _).mpr (Or.inr h2)
        by_cases h4 : hgt az n < p
        · rw [if_pos ⟨h3, h4⟩, if_pos ⟨h2, h4⟩]; omega
        · rw [if_neg (fun q => h4 q.2), if_neg (fun q => h4 q.2)]; omega
      · rw [if_neg (fun q => ((inS_or _).mp q.1).elim h1 h2), if_neg (fun q => h2 q.1)]; omega
/-- a full lake's wet cells are below its pass -/
theorem full_lt (hA : okA az) {m p h : Int} (hp : (pass az m).1 = p) (hn : capZ az m ≠ -1) (hw : ndZ az m h < capZ az m) : h < p ∧ capZ az m = ndZ az m p := by
  have e : capZ az m = ndZ az m p := by
    have hne : (pass az m).1 ≠ -1 := fun q => hn ((capZ_n hA.L).mpr q)
    unfold capZ ndZ
    rw [if_neg hne, hp]
  refine ⟨?_, e⟩
  rcases Int.lt_or_le h p with q | q
  · exact q
  · have := capS_mono (az := az) (m := m) q (mny az).toNat
    unfold ndZ at hw e
    omega
theorem wtr_join (hA : okA az) {x y : Int} (q : jnOk az x y) : wtr az (joinF az x y) := by
  intro t ht hw
  have hJ := hA.join q
  obtain ⟨hf, f0, fx, fy, ft⟩ := q.fr hA
  have q' := q
  obtain ⟨hx, hy, hn, tx, ty, vx, vy, hp⟩ := q
  have hb : sameB az (joinF az x y) := jn_B hf hx hy
  have hS := hb.L
  rw [wet_cap hA ht] at hw
  rw [wet_cap hJ ((hS.c t).mpr ht), hS.nd hA.L ht]
  obtain ⟨w1, w2⟩ := hw
  obtain ⟨l1, l2, l3⟩ := (lakeZ_p (az := az) t).resolve_left w1
  have hd := hA.d x y hx hy tx ty hn
  have key : ∀ u v : Int, (0 ≤ u ∧ u < 72) → (0 ≤ v ∧ v < 72) → az (224 + u) = capZ az (az (152 + u)) → az (224 + v) = capZ az (az (152 + v)) → (pass az (az (152 + u))).1 = (pass az (az (152 + v))).1 → ndZ az (az (152 + u)) (hgt az t) < az (224 + u) → ndZ az (az (152 + u)) (hgt az t) + ndZ az (az (152 + v)) (hgt az t) < az (224 + u) + az (224 + v) := by
    intro u v hu hv eu ev hp hw
    have pu := hA.v u hu
    have pv := hA.v v hv
    rw [eu] at hw pu
    rw [ev] at pv
    have f1 := full_lt hA rfl (by omega) hw
    have f2 : capZ az (az (152 + v)) = ndZ az (az (152 + v)) (pass az (az (152 + u))).1 := by
      have hne : (pass az (az (152 + v))).1 ≠ -1 := fun q => by have := (capZ_n hA.L).mpr q; omega
      unfold capZ ndZ
      rw [if_neg hne, hp]
    have f3 := capS_mono (az := az) (m := az (152 + v)) (show hgt az t ≤ (pass az (az (152 + u))).1 by omega) (mny az).toNat
    have f3 : ndZ az (az (152 + v)) (hgt az t) ≤ ndZ az (az (152 + v)) (pass az (az (152 + u))).1 := f3
    rw [eu, ev, f2]
    omega
  have hnd : ndZ az (orZ (az (152 + x)) (az (152 + y))) (hgt az t) = ndZ az (az (152 + x)) (hgt az t) + ndZ az (az (152 + y)) (hgt az t) := capS_add hd _
  have top : joinF az x y (440 + freeK az) = 1 := by rw [jn_440 hf hf, if_neg fy, if_neg fx, if_pos rfl]
  have mk : joinF az x y (152 + freeK az) = orZ (az (152 + x)) (az (152 + y)) := by rw [jn_152 hf hx hy hf, if_pos rfl]
  have vk : joinF az x y (224 + freeK az) = az (224 + x) + az (224 + y) := by rw [jn_224 hf hx hy hf, if_pos rfl]
  by_cases ex : lakeZ az t = x
  · have el := lakeZ_u hJ hf top (c := t) (by rw [mk]; exact (inS_or t).mpr (Or.inl (ex ▸ l3)))
    rw [el, mk, vk, hnd]
    rw [ex] at w2
    exact ⟨by omega, key x y hx hy vx vy hp w2⟩
  · by_cases ey : lakeZ az t = y
    · have el := lakeZ_u hJ hf top (c := t) (by rw [mk]; exact (inS_or t).mpr (Or.inr (ey ▸ l3)))
      rw [el, mk, vk, hnd]
      rw [ey] at w2
      have := key y x hy hx vy vx hp.symm w2
      exact ⟨by omega, by omega⟩
    · have ef : lakeZ az t ≠ freeK az := fun e => by rw [e] at l2; omega
      have el := lakeZ_u hJ l1 (by rw [jn_440 hf l1, if_neg ey, if_neg ex, if_neg ef]; exact l2) (c := t) (by rw [jn_152 hf hx hy l1, if_neg ef]; exact l3)
      rw [el, jn_152 hf hx hy l1, if_neg ef, jn_224 hf hx hy l1, if_neg ef]
      exact ⟨w1, w2⟩
theorem wtr_loss (hA : okA az) {r r' : Int} : wtr (fup az 3 (az 3 + r)) (fup az 3 (az 3 + r')) ∧ wtr az (fup az 3 (az 3 + r)) := by
  have key : ∀ v : Int, okA (fup az 3 v) ∧ ∀ t, isC az t → (wetP (fup az 3 v) t ↔ wetP az t) := fun v => by
    have hb : sameB az (fup az 3 v) := sameB.rf.f (by omega)
    have hK := hA.to hb (fun k hk => fup_n _ _ (by omega))
    refine ⟨hK, fun t ht => ?_⟩
    have el : lakeZ (fup az 3 v) t = lakeZ az t := lk_e t (fun i hi => ⟨fup_n _ _ (by omega), fup_n _ _ (by omega)⟩) 72 (Nat.le_refl _)
    have hr := lakeZ_r (az := az) t
    rw [wet_cap hK ((hb.L.c t).mpr ht), wet_cap hA ht, el, hb.L.nd hA.L ht, fup_n _ _ (by omega), fup_n _ _ (by omega)]
  have hc : ∀ v t, isC (fup az 3 v) t ↔ isC az t := fun v t => (show sameB az (fup az 3 v) from sameB.rf.f (by omega)).L.c t
  exact ⟨fun t ht hw => ((key _).2 t ((hc _ t).mp ht)).mpr (((key _).2 t ((hc _ t).mp ht)).mp hw), fun t ht hw => ((key _).2 t ht).mpr hw⟩
/-- pouring dries no cell -/
theorem wtr_pour : ∀ (n : Nat) (az : Int → Int) (k r : Int) (Z : Int → Int), okA az → (k = -1 ∨ isK az k) → pourO n az k r = some Z → wtr az Z
  | 0, _, _, _, _, _, _, h => by unfold pourO at h; cases h
  | n + 1, az, k, r, Z, hA, hk, h => by
    unfold pourO at h
    by_cases r0 : r ≤ 0
    · rw [if_pos r0] at h
      rw [← Option.some.inj h]; exact wtr.rf
    rw [if_neg r0] at h
    by_cases k1 : k = -1
    · rw [if_pos k1] at h
      rw [← Option.some.inj h]; exact (wtr_loss hA (r' := r)).2
    rw [if_neg k1] at h
    have q := hk.resolve_left k1
    obtain ⟨a1, a2, a3, a4⟩ := addZ_r hA q (r := r) (by omega)
    have hA1 := hA.add q.1 q.2 a1 a3
    have hb : sameB az (addF az k (addZ az k r)) := add_B q.1
    have w1 : wtr az (addF az k (addZ az k r)) := by
      have := wtr_add hA q.1 (d := 0) (d' := addZ az k r) (by rw [add_0]; exact hA) hA1 a1
      rw [add_0] at this
      exact this
    refine w1.tr hb.L ?_
    by_cases r1 : r - addZ az k r ≤ 0
    · rw [if_pos r1] at h
      exact wtr_pour n _ _ _ _ hA1 (Or.inr ⟨q.1, by rw [add_b 440 _ (by omega) q.1 q.1 (by omega)]; exact q.2⟩) h
    rw [if_neg r1] at h
    by_cases hj : jnP (addF az k (addZ az k r)) k (lakeZ az (pass az (az (152 + k))).2.2)
    · rw [if_pos hj] at h
      obtain ⟨_, ok⟩ := jn_ok hA q (by omega) (by omega) hj
      obtain ⟨f1, f2, f3, f4, f5⟩ := ok.fr hA1
      have fe := freeK_e (r := addZ az k r) q.1 (hA.free q.1 q.2)
      refine (wtr_join hA1 ok).tr (jn_B f1 ok.1 ok.2.1).L (wtr_pour n _ _ _ _ (hA1.join ok) (Or.inr ⟨by rw [← fe]; exact f1, ?_⟩) h)
      rw [← fe, jn_440 f1 f1, if_neg f4, if_neg f3, if_pos rfl]
    · rw [if_neg hj] at h
      refine wtr_pour n _ _ _ _ hA1 ?_ h
      rcases lakeZ_p (az := az) (pass az (az (152 + k))).2.2 with e | ⟨e1, e2, e3⟩
      · exact Or.inl e
      · exact Or.inr ⟨e1, by rw [add_b 440 _ (by omega) q.1 e1 (by omega)]; exact e2⟩
/-- more poured, no cell less wet -/
theorem wtr_le : ∀ (n : Nat) (az : Int → Int) (k r r' : Int) (Z Z' : Int → Int) (n' : Nat), okA az → (k = -1 ∨ isK az k) → r ≤ r' → pourO n az k r = some Z → pourO n' az k r' = some Z' → wtr Z Z'
  | 0, _, _, _, _, _, _, _, _, _, _, h, _ => by unfold pourO at h; cases h
  | _ + 1, _, _, _, _, _, _, 0, _, _, _, _, h => by unfold pourO at h; cases h
  | n + 1, az, k, r, r', Z, Z', n' + 1, hA, hk, hr, h, h' => by
    by_cases r0 : r ≤ 0
    · unfold pourO at h
      rw [if_pos r0] at h
      rw [← Option.some.inj h]
      exact wtr_pour _ _ _ _ _ hA hk h'
    by_cases k1 : k = -1
    · unfold pourO at h h'
      rw [if_neg r0, if_pos k1] at h
      rw [if_neg (show ¬ r' ≤ 0 by omega), if_pos k1] at h'
      rw [← Option.some.inj h, ← Option.some.inj h']
      exact (wtr_loss hA).1
    have q := hk.resolve_left k1
    have q1 := q.1
    obtain ⟨a1, a2, a3, a4⟩ := addZ_r hA q (r := r) (by omega)
    obtain ⟨b1, b2, b3, b4⟩ := addZ_r hA q (r := r') (by omega)
    have hA1 := hA.add q.1 q.2 a1 a3
    have hA2 := hA.add q.1 q.2 b1 b3
    by_cases r1 : r - addZ az k r ≤ 0
    · have er : addZ az k r = r := by omega
      have hle : addZ az k r ≤ addZ az k r' := by
        by_cases e : addZ az k r' < r'
        · have := b4 e
          rcases a3 with a3 | a3
          · exact absurd a3 this.1
          · omega
        · omega
      have hZ : Z = addF az k (addZ az k r) := by
        unfold pourO at h
        rw [if_neg r0, if_neg k1, if_pos r1] at h
        cases n with
        | zero => unfold pourO at h; cases h
        | succ n =>
          unfold pourO at h
          rw [if_pos r1] at h
          exact (Option.some.inj h).symm
      rw [hZ]
      have w1 := wtr_add hA q.1 hA1 hA2 hle
      have s1 : sameL (addF az k (addZ az k r)) (addF az k (addZ az k r')) := ((add_B (az := az) q.1).L.sy).tr (add_B q.1).L
      refine w1.tr s1 ?_
      unfold pourO at h'
      rw [if_neg (show ¬ r' ≤ 0 by omega), if_neg k1] at h'
      by_cases r2 : r' - addZ az k r' ≤ 0
      · rw [if_pos r2] at h'
        exact wtr_pour n' _ _ _ _ hA2 (Or.inr ⟨q.1, by rw [add_b 440 _ (by omega) q.1 q.1 (by omega)]; exact q.2⟩) h'
      rw [if_neg r2] at h'
      by_cases hj : jnP (addF az k (addZ az k r')) k (lakeZ az (pass az (az (152 + k))).2.2)
      · rw [if_pos hj] at h'
        obtain ⟨_, ok⟩ := jn_ok hA q (by omega) (by omega) hj
        obtain ⟨f1, f2, f3, f4, f5⟩ := ok.fr hA2
        have fe := freeK_e (r := addZ az k r') q.1 (hA.free q.1 q.2)
        refine (wtr_join hA2 ok).tr (jn_B f1 ok.1 ok.2.1).L (wtr_pour n' _ _ _ _ (hA2.join ok) (Or.inr ⟨by rw [← fe]; exact f1, ?_⟩) h')
        rw [← fe, jn_440 f1 f1, if_neg f4, if_neg f3, if_pos rfl]
      · rw [if_neg hj] at h'
        refine wtr_pour n' _ _ _ _ hA2 ?_ h'
        rcases lakeZ_p (az := az) (pass az (az (152 + k))).2.2 with e | ⟨e1, e2, e3⟩
        · exact Or.inl e
        · exact Or.inr ⟨e1, by rw [add_b 440 _ (by omega) q.1 e1 (by omega)]; exact e2⟩
    · have c1 := a4 (by omega)
      have ed : addZ az k r' = addZ az k r := by
        unfold addZ
        rw [if_neg c1.1, if_neg c1.1]
        have : ¬ r < capZ az (az (152 + k)) - az (224 + k) := by omega
        rw [if_neg this, if_neg (by omega)]
      unfold pourO at h h'
      rw [if_neg r0, if_neg k1, if_neg r1] at h
      rw [if_neg (show ¬ r' ≤ 0 by omega), if_neg k1, ed, if_neg (show ¬ r' - addZ az k r ≤ 0 by omega)] at h'
      by_cases hj : jnP (addF az k (addZ az k r)) k (lakeZ az (pass az (az (152 + k))).2.2)
      · rw [if_pos hj] at h h'
        obtain ⟨_, ok⟩ := jn_ok hA q (by omega) (by omega) hj
        obtain ⟨f1, f2, f3, f4, f5⟩ := ok.fr hA1
        have fe := freeK_e (r := addZ az k r) q.1 (hA.free q.1 q.2)
        refine wtr_le n _ _ _ _ _ _ n' (hA1.join ok) (Or.inr ⟨by rw [← fe]; exact f1, ?_⟩) (by omega) h h'
        rw [← fe, jn_440 f1 f1, if_neg f4, if_neg f3, if_pos rfl]
      · rw [if_neg hj] at h h'
        refine wtr_le n _ _ _ _ _ _ n' hA1 ?_ (by omega) h h'
        rcases lakeZ_p (az := az) (pass az (az (152 + k))).2.2 with e | ⟨e1, e2, e3⟩
        · exact Or.inl e
        · exact Or.inr ⟨e1, by rw [add_b 440 _ (by omega) q.1 e1 (by omega)]; exact e2⟩
/-- weP grows with the amount -/
theorem weP_le (hA : okA az) {a t r r' : Int} (ht : isC az t) (hr : 0 ≤ r) (hle : r ≤ r') (h : weP az a t r) : weP az a t r' := by
  obtain ⟨Z, ⟨n, h1⟩, h2⟩ := h
  obtain ⟨Z', ⟨n', z1⟩, z2⟩ := pour_ok hA a (r := r') (by omega)
  have hk : lakeZ az a = -1 ∨ isK az (lakeZ az a) := (lakeZ_p a).imp id (fun q => ⟨q.1, q.2.1⟩)
  have hs := (Pours.p hA hr ⟨n, h1⟩).2.1.L
  exact ⟨Z', ⟨n', z1⟩, wtr_le n az _ r r' Z Z' n' hA hk hle h1 z1 t ((hs.c t).mpr ht) h2⟩
end SP18
