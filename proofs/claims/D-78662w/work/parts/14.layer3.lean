/-! THE LAYER, third part: fields, arrays, new cells, the end of a method, its entry -/
set_option maxRecDepth 100000
/-- a field's link at an entry of the constants: class ci of cl0, field k -/
def FL (own : String) (idx ci k : Nat) : Prop := ∃ (C : String) (T : u_T) (n : Nat), cl0[ci]? = some (C, T, n) ∧ (∀ w ∈ u_ws C T n, w ∈ lw_all) ∧ k < n ∧ Cond.fieldLink own idx (T k).1 (T k).2.1 (T k).2.2.1 ∈ lw_all
def FLN (own : String) (idx ci k : Nat) (host : String) : Prop := ∃ (C : String) (T : u_T) (n : Nat), cl0[ci]? = some (C, T, n) ∧ (∀ w ∈ u_ws C T n, w ∈ lw_all) ∧ k < n ∧ Cond.fieldLinkNest own idx (T k).1 (T k).2.1 (T k).2.2.1 host ∈ lw_tbl
/-- what a store needs of the class ci and its field k -/
def FT (ci k : Nat) (ty : FieldType) (fin : Bool) : Prop := ∀ (C : String) (T : u_T) (n : Nat), cl0[ci]? = some (C, T, n) → (∃ ty0 : Nat → FieldType, ∀ k, k < n → parseFieldDescriptor (T k).2.2.1 = some (ty0 k)) ∧ (∀ a, a < n → ∀ b, b < n → a ≠ b → (T a).2.1 ≠ (T b).2.1) ∧ (T k).2.2.2 = fin ∧ parseFieldDescriptor (T k).2.2.1 = some ty
section LAY3
variable {g : GV} {F : Fx} {cc : ByteArray} {own : String} {nL d : Nat} {Bs Bs' : List va_W} {K N pc : Nat} {L : List (Nat × Value)} {st : List Value}
theorem wp_get {idx ci k i j a : Nat} {B : va_W} {fs : List Value} {v : Value} (G : FxOk g F cc own nL d) (dg : decode cc pc = .ok (.getfield idx, 3)) (f : FL own idx ci k) (hB : Bs[i]? = some B) (he : B[j]? = some (a, .inr (ci, fs))) (hv : fs[k]? = some v) (kk : Wp g F Bs K N (pc + 3) L (v :: st)) : Wp g F Bs K N pc L (.ref a :: st) := by
  obtain ⟨C, T, n, hc, hin, hk, hl⟩ := f
  intro H locs cells slots ls hP hN hS hlv h1 h2
  obtain ⟨q0, hq, -⟩ := w_idx hB he
  exact va_get (D := g_D g) (ci := ci) (v := v) (C := C) (T := T) (N := n) G.hx G.hb G.hts hin G.hown G.hK (wP_va hP) q0 hq hc k hk (G.hts _ hl) (fun _ h => h) hv dg (kk H locs cells slots ls hP hN hS hlv h1 h2)
theorem nw_tbl (G : FxOk g F cc own nL d) {w : Cond} (hw : w ∈ lw_tbl) (ho : w.onTables = true) : va_Nw w (g_s g) := va_Nw.of ho (G.gok.2.1 w hw)
theorem wp_getN {idx ci k i j a : Nat} {B : va_W} {fs : List Value} {v : Value} {host : String} (G : FxOk g F cc own nL d) (dg : decode cc pc = .ok (.getfield idx, 3)) (f : FLN own idx ci k host) (hB : Bs[i]? = some B) (he : B[j]? = some (a, .inr (ci, fs))) (hv : fs[k]? = some v) (kk : Wp g F Bs K N (pc + 3) L (v :: st)) : Wp g F Bs K N pc L (.ref a :: st) := by
  obtain ⟨C, T, n, hc, hin, hk, hl⟩ := f
  intro H locs cells slots ls hP hN hS hlv h1 h2
  obtain ⟨q0, hq, -⟩ := w_idx hB he
  exact va_getN (D := g_D g) (ci := ci) (v := v) (C := C) (T := T) (N := n) G.hx G.hb G.hts hin G.hown G.hK (wP_va hP) q0 hq hc k hk (va_Nw.use rfl (va_Nw.warmF G.hE.1 (nw_tbl G hl rfl))) (fun _ h => h) hv dg (kk H locs cells slots ls hP hN hS hlv h1 h2)
theorem wp_put {idx ci k i j a : Nat} {B : va_W} {fs : List Value} {v : Value} {ty : FieldType} (G : FxOk g F cc own nL d) (dg : decode cc pc = .ok (.putfield idx, 3)) (f : FL own idx ci k) (ft : FT ci k ty false) (hv : narrow ty v = v ∧ fits ty v = true) (hB : Bs[i]? = some B) (he : B[j]? = some (a, .inr (ci, fs))) (hk : k < fs.length) (hB' : Bs.set i (B.set j (a, .inr (ci, fs.set k v))) = Bs') (kk : Wp g F Bs' K N (pc + 3) L st) : Wp g F Bs K N pc L (v :: .ref a :: st) := by
  obtain ⟨C, T, n, hc, hin, hkn, hl⟩ := f
  obtain ⟨⟨ty0, hty⟩, hnm, hfin, hpd⟩ := ft C T n hc
  intro H locs cells slots ls hP hN hS hlv h1 h2
  obtain ⟨q0, hq, hs⟩ := w_idx hB he
  have e : Bs'.flatten = Bs.flatten.set q0 (a, .inr (ci, fs.set k v)) := by rw [← hB', hs]
  exact va_put (D := g_D g) (ci := ci) (v := v) (ty := ty) (C := C) (T := T) (N := n) G.hx G.hb G.hts hin ty0 hty hnm G.hown G.hK (wP_va hP) (wN_va hN) hS q0 hq hc k hkn (G.hts _ hl) (fun _ h => h) hfin hpd hv.1 hv.2 hk dg (fun H1 locs1 hP1 hD1 hS1 => kk H1 locs1 cells slots ls (va_wP hP1 e) (va_wN hD1 e) hS1 hlv h1 h2)
theorem wp_putN {idx ci k i j a : Nat} {B : va_W} {fs : List Value} {v : Value} {ty : FieldType} {host : String} (G : FxOk g F cc own nL d) (dg : decode cc pc = .ok (.putfield idx, 3)) (f : FLN own idx ci k host) (ft : FT ci k ty false) (hv : narrow ty v = v ∧ fits ty v = true) (hB : Bs[i]? = some B) (he : B[j]? = some (a, .inr (ci, fs))) (hk : k < fs.length) (hB' : Bs.set i (B.set j (a, .inr (ci, fs.set k v))) = Bs') (kk : Wp g F Bs' K N (pc + 3) L st) : Wp g F Bs K N pc L (v :: .ref a :: st) := by
  obtain ⟨C, T, n, hc, hin, hkn, hl⟩ := f
  obtain ⟨⟨ty0, hty⟩, hnm, hfin, hpd⟩ := ft C T n hc
  intro H locs cells slots ls hP hN hS hlv h1 h2
  obtain ⟨q0, hq, hs⟩ := w_idx hB he
  have e : Bs'.flatten = Bs.flatten.set q0 (a, .inr (ci, fs.set k v)) := by rw [← hB', hs]
  exact va_putN (D := g_D g) (ci := ci) (v := v) (ty := ty) (C := C) (T := T) (N := n) G.hx G.hb G.hts hin ty0 hty hnm G.hown G.hK (wP_va hP) (wN_va hN) hS q0 hq hc k hkn (va_Nw.use rfl (va_Nw.warmF G.hE.1 (nw_tbl G hl rfl))) (fun _ h => h) hfin hpd hv.1 hv.2 hk dg (fun H1 locs1 hP1 hD1 hS1 => kk H1 locs1 cells slots ls (va_wP hP1 e) (va_wN hD1 e) hS1 hlv h1 h2)
/-- a final field, in a constructor of its own class -/
theorem wp_putF {idx ci k i j a : Nat} {B : va_W} {fs : List Value} {v : Value} {ty : FieldType} (G : FxOk g F cc own nL d) (hin2 : (fxh F).name = "<init>") (dg : decode cc pc = .ok (.putfield idx, 3)) (f : FL own idx ci k) (ft : FT ci k ty true) (hdecl : ∀ q, cl0[ci]? = some q → (q.2.1 k).1 = own) (hv : narrow ty v = v ∧ fits ty v = true) (hB : Bs[i]? = some B) (he : B[j]? = some (a, .inr (ci, fs))) (hk : k < fs.length) (hB' : Bs.set i (B.set j (a, .inr (ci, fs.set k v))) = Bs') (kk : Wp g F Bs' K N (pc + 3) L st) : Wp g F Bs K N pc L (v :: .ref a :: st) := by
  obtain ⟨C, T, n, hc, hin, hkn, hl⟩ := f
  obtain ⟨⟨ty0, hty⟩, hnm, hfin, hpd⟩ := ft C T n hc
  intro H locs cells slots ls hP hN hS hlv h1 h2
  obtain ⟨q0, hq, hs⟩ := w_idx hB he
  have e : Bs'.flatten = Bs.flatten.set q0 (a, .inr (ci, fs.set k v)) := by rw [← hB', hs]
  exact va_putF (D := g_D g) (ci := ci) (v := v) (ty := ty) (C := C) (T := T) (N := n) G.hx G.hb G.hts hin ty0 hty hnm G.hown G.hK (wP_va hP) (wN_va hN) hS q0 hq hc k hkn (G.hts _ hl) (fun _ h => h) hfin hin2 (hdecl _ hc) hpd hv.1 hv.2 hk dg (fun H1 locs1 hP1 hD1 hS1 => kk H1 locs1 cells slots ls (va_wP hP1 e) (va_wN hD1 e) hS1 hlv h1 h2)
/-! arrays -/
theorem wp_alen {i j a n : Nat} {B : va_W} {x : vp_A} (t0 : Nat) {cA : ClassId} {ty : FieldType} (G : FxOk g F cc own nL d) (dg : decode cc pc = .ok (.arraylength, 1)) (hB : Bs[i]? = some B) (he : B[j]? = some (a, .inl (cA, x))) (ht : (tys0 g)[t0]? = some (cA, ty)) (hn : x.1 = n) (kk : Wp g F Bs K N (pc + 1) L (iV n :: st)) : Wp g F Bs K N pc L (.ref a :: st) := by
  intro H locs cells slots ls hP hN hS hlv h1 h2
  obtain ⟨q0, hq, -⟩ := w_idx hB he
  exact va_alen (v := Int32.ofInt n) G.hx G.hb G.hK (wP_va hP) q0 t0 hq ht (by rw [hn, Int32.ofInt_eq_ofNat]) dg (kk H locs cells slots ls hP hN hS hlv h1 h2)
theorem wp_iald {i j a n : Nat} {B : va_W} {f : Int → Int} {x : Int} (G : FxOk g F cc own nL d) (dg : decode cc pc = .ok (.iaload, 1)) (hB : Bs[i]? = some B) (he : B[j]? = some (a, aI g n f)) (hx : 0 ≤ x ∧ x < n) (hn : n ≤ 2147483647) (kk : Wp g F Bs K N (pc + 1) L (iV (f x) :: st)) : Wp g F Bs K N pc L (iV x :: .ref a :: st) := by
  intro H locs cells slots ls hP hN hS hlv h1 h2
  obtain ⟨q0, hq, -⟩ := w_idx hB he
  refine va_iald G.hx G.hb G.hK (wP_va hP) q0 0 hq rfl (i32_in hx (by omega)) dg ?_
  rw [i32_cl (by omega), Int.toNat_of_nonneg hx.1]
  exact kk H locs cells slots ls hP hN hS hlv h1 h2
theorem wp_bald {i j a n : Nat} {B : va_W} {f : Int → Int} {x : Int} (G : FxOk g F cc own nL d) (dg : decode cc pc = .ok (.baload, 1)) (hB : Bs[i]? = some B) (he : B[j]? = some (a, aB g n f)) (hx : 0 ≤ x ∧ x < n) (hn : n ≤ 2147483647) (kk : Wp g F Bs K N (pc + 1) L (iV (f x) :: st)) : Wp g F Bs K N pc L (iV x :: .ref a :: st) := by
  intro H locs cells slots ls hP hN hS hlv h1 h2
  obtain ⟨q0, hq, -⟩ := w_idx hB he
  refine va_bald G.hx G.hb G.hK (wP_va hP) q0 2 hq rfl (i32_in hx (by omega)) dg ?_
  rw [i32_cl (by omega), Int.toNat_of_nonneg hx.1]
  exact kk H locs cells slots ls hP hN hS hlv h1 h2
theorem wp_lald {i j a n : Nat} {B : va_W} {f : Int → Int} {x : Int} (G : FxOk g F cc own nL d) (dg : decode cc pc = .ok (.laload, 1)) (hB : Bs[i]? = some B) (he : B[j]? = some (a, aJ g n f)) (hx : 0 ≤ x ∧ x < n) (hn : n ≤ 2147483647) (kk : Wp g F Bs K N (pc + 1) L (jV (f x) :: st)) : Wp g F Bs K N pc L (iV x :: .ref a :: st) := by
  intro H locs cells slots ls hP hN hS hlv h1 h2
  obtain ⟨q0, hq, -⟩ := w_idx hB he
  refine va_lald G.hx G.hb G.hK (wP_va hP) q0 1 hq rfl (i32_in hx (by omega)) dg ?_
  rw [i32_cl (by omega), Int.toNat_of_nonneg hx.1]
  exact kk H locs cells slots ls hP hN hS hlv h1 h2
theorem wp_dald {i j a n : Nat} {B : va_W} {f : Int → UInt64} {x : Int} (G : FxOk g F cc own nL d) (dg : decode cc pc = .ok (.daload, 1)) (hB : Bs[i]? = some B) (he : B[j]? = some (a, aD g n f)) (hx : 0 ≤ x ∧ x < n) (hn : n ≤ 2147483647) (kk : Wp g F Bs K N (pc + 1) L (.double (f x) :: st)) : Wp g F Bs K N pc L (iV x :: .ref a :: st) := by
  intro H locs cells slots ls hP hN hS hlv h1 h2
  obtain ⟨q0, hq, -⟩ := w_idx hB he
  refine va_dald G.hx G.hb G.hK (wP_va hP) q0 3 hq rfl (i32_in hx (by omega)) dg ?_
  rw [i32_cl (by omega), Int.toNat_of_nonneg hx.1]
  exact kk H locs cells slots ls hP hN hS hlv h1 h2
theorem wp_aald {i j a n : Nat} {B : va_W} {f : Int → Option Nat} {x : Int} (t0 : Nat) {cA : ClassId} {C : String} (G : FxOk g F cc own nL d) (dg : decode cc pc = .ok (.aaload, 1)) (hB : Bs[i]? = some B) (he : B[j]? = some (a, aR cA n f)) (ht : (tys0 g)[t0]? = some (cA, .object C)) (hx : 0 ≤ x ∧ x < n) (hn : n ≤ 2147483647) (kk : Wp g F Bs K N (pc + 1) L (va_rf (f x) :: st)) : Wp g F Bs K N pc L (iV x :: .ref a :: st) := by
  intro H locs cells slots ls hP hN hS hlv h1 h2
  obtain ⟨q0, hq, -⟩ := w_idx hB he
  refine va_aldq G.hx G.hb G.hK (wP_va hP) q0 t0 hq ht (i32_in hx (by omega)) dg ?_
  rw [i32_cl (by omega), Int.toNat_of_nonneg hx.1]
  exact kk H locs cells slots ls hP hN hS hlv h1 h2
theorem wp_iast {i j a n : Nat} {B : va_W} {f : Int → Int} {x y : Int} (G : FxOk g F cc own nL d) (dg : decode cc pc = .ok (.iastore, 1)) (hB : Bs[i]? = some B) (he : B[j]? = some (a, aI g n f)) (hx : 0 ≤ x ∧ x < n) (hn : n ≤ 2147483647) (hB' : Bs.set i (B.set j (a, aI g n (fup f x y))) = Bs') (kk : Wp g F Bs' K N (pc + 1) L st) : Wp g F Bs K N pc L (iV y :: iV x :: .ref a :: st) := by
  intro H locs cells slots ls hP hN hS hlv h1 h2
  obtain ⟨q0, hq, hs⟩ := w_idx hB he
  refine va_iast G.hx G.hb G.hK (wP_va hP) (wN_va hN) hS q0 0 hq rfl (i32_in hx (by omega)) dg (fun H1 locs1 hP1 hD1 hS1 => ?_)
  rw [i32_cl (by omega), ← fup_32 f hx.1] at hP1 hD1
  have e := (congrArg List.flatten hB').symm.trans (hs _)
  exact kk H1 locs1 cells slots ls (va_wP hP1 e) (va_wN hD1 e) hS1 hlv h1 h2
theorem wp_bast {i j a n : Nat} {B : va_W} {f : Int → Int} {x y : Int} (G : FxOk g F cc own nL d) (dg : decode cc pc = .ok (.bastore, 1)) (hB : Bs[i]? = some B) (he : B[j]? = some (a, aB g n f)) (hx : 0 ≤ x ∧ x < n) (hn : n ≤ 2147483647) (hy : vp_nar .byte (Int32.ofInt y) = Int32.ofInt y) (hB' : Bs.set i (B.set j (a, aB g n (fup f x y))) = Bs') (kk : Wp g F Bs' K N (pc + 1) L st) : Wp g F Bs K N pc L (iV y :: iV x :: .ref a :: st) := by
  intro H locs cells slots ls hP hN hS hlv h1 h2
  obtain ⟨q0, hq, hs⟩ := w_idx hB he
  refine va_bast G.hx G.hb G.hK (wP_va hP) (wN_va hN) hS q0 2 hq rfl (i32_in hx (by omega)) dg (fun H1 locs1 hP1 hD1 hS1 => ?_)
  rw [i32_cl (by omega), hy, ← fup_32 f hx.1] at hP1 hD1
  have e := (congrArg List.flatten hB').symm.trans (hs _)
  exact kk H1 locs1 cells slots ls (va_wP hP1 e) (va_wN hD1 e) hS1 hlv h1 h2
theorem wp_last {i j a n : Nat} {B : va_W} {f : Int → Int} {x y : Int} (G : FxOk g F cc own nL d) (dg : decode cc pc = .ok (.lastore, 1)) (hB : Bs[i]? = some B) (he : B[j]? = some (a, aJ g n f)) (hx : 0 ≤ x ∧ x < n) (hn : n ≤ 2147483647) (hB' : Bs.set i (B.set j (a, aJ g n (fup f x y))) = Bs') (kk : Wp g F Bs' K N (pc + 1) L st) : Wp g F Bs K N pc L (jV y :: iV x :: .ref a :: st) := by
  intro H locs cells slots ls hP hN hS hlv h1 h2
  obtain ⟨q0, hq, hs⟩ := w_idx hB he
  refine va_last G.hx G.hb G.hK (wP_va hP) (wN_va hN) hS q0 1 hq rfl (i32_in hx (by omega)) dg (fun H1 locs1 hP1 hD1 hS1 => ?_)
  rw [i32_cl (by omega), ← fup_64 f hx.1] at hP1 hD1
  have e := (congrArg List.flatten hB').symm.trans (hs _)
  exact kk H1 locs1 cells slots ls (va_wP hP1 e) (va_wN hD1 e) hS1 hlv h1 h2
theorem wp_dast {i j a n : Nat} {B : va_W} {f : Int → UInt64} {x : Int} {y : UInt64} (G : FxOk g F cc own nL d) (dg : decode cc pc = .ok (.dastore, 1)) (hB : Bs[i]? = some B) (he : B[j]? = some (a, aD g n f)) (hx : 0 ≤ x ∧ x < n) (hn : n ≤ 2147483647) (hB' : Bs.set i (B.set j (a, aD g n (fup f x y))) = Bs') (kk : Wp g F Bs' K N (pc + 1) L st) : Wp g F Bs K N pc L (.double y :: iV x :: .ref a :: st) := by
  intro H locs cells slots ls hP hN hS hlv h1 h2
  obtain ⟨q0, hq, hs⟩ := w_idx hB he
  refine va_dast G.hx G.hb G.hK (wP_va hP) (wN_va hN) hS q0 3 hq rfl (i32_in hx (by omega)) dg (fun H1 locs1 hP1 hD1 hS1 => ?_)
  rw [i32_cl (by omega), ← fup_d f hx.1] at hP1 hD1
  have e := (congrArg List.flatten hB').symm.trans (hs _)
  exact kk H1 locs1 cells slots ls (va_wP hP1 e) (va_wN hD1 e) hS1 hlv h1 h2
/-- a cell of the array's own element class, or null, is stored into an array of references -/
theorem wp_aastN {i j a n : Nat} {B : va_W} {f : Int → Option Nat} {x : Int} (t0 : Nat) {cA : ClassId} {C : String} (G : FxOk g F cc own nL d) (dg : decode cc pc = .ok (.aastore, 1)) (hB : Bs[i]? = some B) (he : B[j]? = some (a, aR cA n f)) (ht : (tys0 g)[t0]? = some (cA, .object C)) (hx : 0 ≤ x ∧ x < n) (hn : n ≤ 2147483647) (hB' : Bs.set i (B.set j (a, aR cA n (fup f x none))) = Bs') (kk : Wp g F Bs' K N (pc + 1) L st) : Wp g F Bs K N pc L (.null :: iV x :: .ref a :: st) := by
  intro H locs cells slots ls hP hN hS hlv h1 h2
  obtain ⟨q0, hq, hs⟩ := w_idx hB he
  refine va_astqN G.hx G.hb G.hK (wP_va hP) (wN_va hN) hS q0 t0 hq ht (i32_in hx (by omega)) dg (fun H1 locs1 hP1 hD1 hS1 => ?_)
  rw [i32_cl (by omega), ← fup_r f hx.1] at hP1 hD1
  have e := (congrArg List.flatten hB').symm.trans (hs _)
  exact kk H1 locs1 cells slots ls (va_wP hP1 e) (va_wN hD1 e) hS1 hlv h1 h2
theorem wp_aast {i j a n v ci : Nat} {B : va_W} {f : Int → Option Nat} {x : Int} {vs : List Value} {r : vw_C} (t0 : Nat) {cA : ClassId} (G : FxOk g F cc own nL d) (dg : decode cc pc = .ok (.aastore, 1)) (hB : Bs[i]? = some B) (he : B[j]? = some (a, aR cA n f)) (ht : (tys0 g)[t0]? = some (cA, .object r.1)) (hc : cl0[ci]? = some r) (hv : (v, .inr (ci, vs)) ∈ Bs.flatten) (hx : 0 ≤ x ∧ x < n) (hn : n ≤ 2147483647) (hB' : Bs.set i (B.set j (a, aR cA n (fup f x (some v)))) = Bs') (kk : Wp g F Bs' K N (pc + 1) L st) : Wp g F Bs K N pc L (.ref v :: iV x :: .ref a :: st) := by
  intro H locs cells slots ls hP hN hS hlv h1 h2
  obtain ⟨q0, hq, hs⟩ := w_idx hB he
  obtain ⟨qk, hqk⟩ := List.getElem?_of_mem hv
  refine va_astq (r := r) G.hx G.hb G.hK (wP_va hP) (wN_va hN) hS q0 t0 qk ci hq ht hqk hc (i32_in hx (by omega)) dg (fun H1 locs1 hP1 hD1 hS1 => ?_)
  rw [i32_cl (by omega), ← fup_r f hx.1] at hP1 hD1
  have e := (congrArg List.flatten hB').symm.trans (hs _)
  exact kk H1 locs1 cells slots ls (va_wP hP1 e) (va_wN hD1 e) hS1 hlv h1 h2
/-! new cells -/
/-- what 'new' needs: class ci at an entry of the constants, its fields' values at birth -/
def NW (own : String) (idx ci : Nat) (fs : List Value) : Prop := ∃ (C : String) (T : u_T) (n : Nat) (ty : Nat → FieldType), cl0[ci]? = some (C, T, n) ∧ (∀ w ∈ u_ws C T n, w ∈ lw_all) ∧ (∀ k, k < n → parseFieldDescriptor (T k).2.2.1 = some (ty k)) ∧ Cond.classLink own idx C ∈ lw_all ∧ Cond.instantiable C n ∈ lw_all ∧ Cond.initialized C ∈ lw_all ∧ (∀ j, j < n → defaultValue (ty j) = vp_V fs j) ∧ n ≤ fs.length
theorem wp_new {idx ci n K' N' : Nat} {fs : List Value} (G : FxOk g F cc own nL d) (dg : decode cc pc = .ok (.new idx, 3)) (w : NW own idx ci fs) (hn : fs.length = n) (h1 : K' + 1 ≤ K) (h2 : N' + n ≤ N) (kk : ∀ q : Nat, Wp g F (Bs ++ [[(q, .inr (ci, fs))]]) K' N' (pc + 3) L (.ref q :: st)) : Wp g F Bs K N pc L st := by
  obtain ⟨C, T, n', ty, hc, hin, hty, hl, hi, hini, hfs, hle⟩ := w
  intro H locs cells slots ls hP hN hS hlv h3 h4
  have hrc := G.rc
  have hrs := G.rs
  refine va_new (D := g_D g) (ci := ci) (fs := fs) (C := C) (T := T) (N := n') G.hx G.hb G.hts hin ty hty G.hown (G.hts _ hl) (G.hts _ hi) (G.hts _ hini) G.hK (wP_va hP) (wN_va hN) hS G.hA hc hfs (by omega) (by omega) dg (fun q H1 hP1 hD1 hS1 => ?_)
  exact kk q H1 locs (cells + 1) (slots + n') ls (va_wP hP1 (flat_push _)) (va_wN hD1 (flat_push _)) hS1 hlv (by omega) (by omega)
theorem ty_uniq (G : FxOk g F cc own nL d) {t0 : Nat} {cA : ClassId} {ty : FieldType} (ht : (tys0 g)[t0]? = some (cA, ty)) {cB : ClassId} (h : va_RA (fxs F) cB ty) : cB = cA := by
  have h2 := (G.hK.2 t0 _ ht).2
  cases ty with
  | object C =>
    obtain ⟨-, -, -, -, -, e1⟩ := h
    obtain ⟨-, -, -, -, -, e2⟩ := h2
    exact Option.some.inj (e1.symm.trans e2)
  | _ => exact Option.some.inj (h.symm.trans h2)
theorem K_last {tys : List (ClassId × FieldType)} {q : ClassId × FieldType} {s : State} (h : va_K (g_D g) cl0 (tys ++ [q]) s) : va_RA s q.1 q.2 := (h.2 tys.length q (by simp)).2
theorem wp_newi {n : Int} {m K' N' : Nat} (G : FxOk g F cc own nL d) (hw : Cond.arrayClass .int ∈ lw_all) (dg : decode cc pc = .ok (.newarray .int, 2)) (hn : n = (m : Int)) (hm : m ≤ 100000) (h1 : K' + 1 ≤ K) (h2 : N' + m ≤ N) (kk : ∀ q : Nat, Wp g F (Bs ++ [[(q, aI g m (fun _ => 0))]]) K' N' (pc + 2) L (.ref q :: st)) : Wp g F Bs K N pc L (iV n :: st) := by
  intro H locs cells slots ls hP hN hS hlv h3 h4
  have hrc := G.rc
  have hrs := G.rs
  subst hn
  refine va_newa (atype := .int) (ty := .int) (N' := m) (a0 := (m, .inl (fun _ => 0))) G.hx G.hb (G.hts _ hw) rfl G.hK (wP_va hP) (wN_va hN) hS G.hA (fun _ => rfl) (fun h => ?_) (by rw [i32_cl (by omega)]; simp) (show m * 4 ≤ 536870912 by omega) (by omega) (by omega) dg (fun q cA H1 hK1 hP1 hD1 hS1 => ?_)
  · have := (i32_lt (x := (m : Int)) (y := 0) (by omega) (by omega)).mp h
    omega
  · have e : cA = g_c g 0 := ty_uniq (t0 := 0) G rfl (K_last hK1)
    subst e
    exact kk q H1 locs (cells + 1) (slots + m) ls (va_wP hP1 (flat_push _)) (va_wN hD1 (flat_push _)) hS1 hlv (by omega) (by omega)
theorem wp_newl {n : Int} {m K' N' : Nat} (G : FxOk g F cc own nL d) (hw : Cond.arrayClass .long ∈ lw_all) (dg : decode cc pc = .ok (.newarray .long, 2)) (hn : n = (m : Int)) (hm : m ≤ 100000) (h1 : K' + 1 ≤ K) (h2 : N' + m ≤ N) (kk : ∀ q : Nat, Wp g F (Bs ++ [[(q, aJ g m (fun _ => 0))]]) K' N' (pc + 2) L (.ref q :: st)) : Wp g F Bs K N pc L (iV n :: st) := by
  intro H locs cells slots ls hP hN hS hlv h3 h4
  have hrc := G.rc
  have hrs := G.rs
  subst hn
  refine va_newa (atype := .long) (ty := .long) (N' := m) (a0 := (m, .inr (.inl (fun _ => 0)))) G.hx G.hb (G.hts _ hw) rfl G.hK (wP_va hP) (wN_va hN) hS G.hA (fun _ => rfl) (fun h => ?_) (by rw [i32_cl (by omega)]; simp) (show m * 8 ≤ 536870912 by omega) (by omega) (by omega) dg (fun q cA H1 hK1 hP1 hD1 hS1 => ?_)
  · have := (i32_lt (x := (m : Int)) (y := 0) (by omega) (by omega)).mp h
    omega
  · have e : cA = g_c g 1 := ty_uniq (t0 := 1) G rfl (K_last hK1)
    subst e
    exact kk q H1 locs (cells + 1) (slots + m) ls (va_wP hP1 (flat_push _)) (va_wN hD1 (flat_push _)) hS1 hlv (by omega) (by omega)
theorem wp_newb {n : Int} {m K' N' : Nat} (G : FxOk g F cc own nL d) (hw : Cond.arrayClass .byte ∈ lw_all) (dg : decode cc pc = .ok (.newarray .byte, 2)) (hn : n = (m : Int)) (hm : m ≤ 100000) (h1 : K' + 1 ≤ K) (h2 : N' + m ≤ N) (kk : ∀ q : Nat, Wp g F (Bs ++ [[(q, aB g m (fun _ => 0))]]) K' N' (pc + 2) L (.ref q :: st)) : Wp g F Bs K N pc L (iV n :: st) := by
  intro H locs cells slots ls hP hN hS hlv h3 h4
  have hrc := G.rc
  have hrs := G.rs
  subst hn
  refine va_newa (atype := .byte) (ty := .byte) (N' := m) (a0 := (m, .inl (fun _ => 0))) G.hx G.hb (G.hts _ hw) rfl G.hK (wP_va hP) (wN_va hN) hS G.hA (fun _ => rfl) (fun h => ?_) (by rw [i32_cl (by omega)]; simp) (show m * 1 ≤ 536870912 by omega) (by omega) (by omega) dg (fun q cA H1 hK1 hP1 hD1 hS1 => ?_)
  · have := (i32_lt (x := (m : Int)) (y := 0) (by omega) (by omega)).mp h
    omega
  · have e : cA = g_c g 2 := ty_uniq (t0 := 2) G rfl (K_last hK1)
    subst e
    exact kk q H1 locs (cells + 1) (slots + m) ls (va_wP hP1 (flat_push _)) (va_wN hD1 (flat_push _)) hS1 hlv (by omega) (by omega)
theorem wp_newd {n : Int} {m K' N' : Nat} (G : FxOk g F cc own nL d) (hw : Cond.arrayClass .double ∈ lw_all) (dg : decode cc pc = .ok (.newarray .double, 2)) (hn : n = (m : Int)) (hm : m ≤ 100000) (h1 : K' + 1 ≤ K) (h2 : N' + m ≤ N) (kk : ∀ q : Nat, Wp g F (Bs ++ [[(q, aD g m (fun _ => 0))]]) K' N' (pc + 2) L (.ref q :: st)) : Wp g F Bs K N pc L (iV n :: st) := by
  intro H locs cells slots ls hP hN hS hlv h3 h4
  have hrc := G.rc
  have hrs := G.rs
  subst hn
  refine va_newa (atype := .double) (ty := .double) (N' := m) (a0 := (m, .inr (.inr (.inr (.inl (fun _ => 0)))))) G.hx G.hb (G.hts _ hw) rfl G.hK (wP_va hP) (wN_va hN) hS G.hA (fun _ => rfl) (fun h => ?_) (by rw [i32_cl (by omega)]; simp) (show m * 8 ≤ 536870912 by omega) (by omega) (by omega) dg (fun q cA H1 hK1 hP1 hD1 hS1 => ?_)
  · have := (i32_lt (x := (m : Int)) (y := 0) (by omega) (by omega)).mp h
    omega
  · have e : cA = g_c g 3 := ty_uniq (t0 := 3) G rfl (K_last hK1)
    subst e
    exact kk q H1 locs (cells + 1) (slots + m) ls (va_wP hP1 (flat_push _)) (va_wN hD1 (flat_push _)) hS1 hlv (by omega) (by omega)
theorem wp_newq {idx : Nat} {n : Int} {m K' N' : Nat} (t0 : Nat) {cA : ClassId} {C : String} (G : FxOk g F cc own nL d) (hl : Cond.classLink own idx C ∈ lw_all) (hw : Cond.arrayOver (.object C) ∈ lw_tbl) (ht : (tys0 g)[t0]? = some (cA, .object C)) (dg : decode cc pc = .ok (.anewarray idx, 3)) (hn : n = (m : Int)) (hm : m ≤ 100000) (h1 : K' + 1 ≤ K) (h2 : N' + m ≤ N) (kk : ∀ q : Nat, Wp g F (Bs ++ [[(q, aR cA m (fun _ => none))]]) K' N' (pc + 3) L (.ref q :: st)) : Wp g F Bs K N pc L (iV n :: st) := by
  intro H locs cells slots ls hP hN hS hlv h3 h4
  have hrc := G.rc
  have hrs := G.rs
  subst hn
  refine va_newq (N' := m) (C := C) G.hx G.hb G.hown (G.hts _ hl) (va_AO.moved G.hE.1.alike (va_AO.of (G.gok.2.1 _ hw))) G.hK (wP_va hP) (wN_va hN) hS G.hA (fun h => ?_) (by rw [i32_cl (by omega)]; simp) (by omega) (by omega) (by omega) dg (fun q cB H1 hK1 hP1 hD1 hS1 => ?_)
  · have := (i32_lt (x := (m : Int)) (y := 0) (by omega) (by omega)).mp h
    omega
  · have e : cB = cA := ty_uniq G ht (K_last hK1)
    subst e
    exact kk q H1 locs (cells + 1) (slots + m) ls (va_wP hP1 (flat_push _)) (va_wN hD1 (flat_push _)) hS1 hlv (by omega) (by omega)
/-! the end of a method -/
theorem wp_end {v : Option Value} {ret : Option FieldType} {P : Option Value → List va_W → Prop} {PX : String → List va_W → Prop} (R : FxRet g F ret P PX) (hp : P v Bs)
    (h : ∀ (H : Heap) (locs : List Loc) (ls : Array Slot), (∀ t : State, t.heap = H → (fxs F).WarmedH t.vm → ctQ g (fxA F) P (fxa F) (fxs F) (.returned v) t) → (∀ q ∈ locs, fxA F q.base) →
      W (fxp F) (g_l g) (fxe F) (fxR F) (fxs F) (fxm F) (fxa F) (fxb F) (fxh F) (fxc F) H locs (fxK F) (fxN F) (MQ (fxb F) (ctQ g (fxA F) P) (fxa F) (fxs F) (fxK F) (fxN F) (fxA F)) (F0 (fxm F) pc ls st)) : Wp g F Bs K N pc L st := by
  intro H locs cells slots ls hP hN hS hlv h1 h2
  rw [R.2]
  refine W.widen (k := fxK F) (n := fxN F) (by omega) (by omega) (vx_ret (h H locs ls (fun t ht _ => ?_) hS.2.2))
  exact ⟨⟨v, Bs, rfl, hp, by rw [ht]; exact hP, hN⟩, by rw [ht]; exact hS.1, by rw [ht]; exact hS.2.1⟩
theorem wp_iret {z : Int} {P : Option Value → List va_W → Prop} {PX : String → List va_W → Prop} (G : FxOk g F cc own nL d) (R : FxRet g F (some .int) P PX) (dg : decode cc pc = .ok (.ireturn, 1)) (hp : P (some (iV z)) Bs) : Wp g F Bs K N pc L [iV z] :=
  wp_end R hp (fun _ _ _ hq hf => W.iret (v := Int32.ofInt z) G.hx G.hb R.1 hq hf dg G.hlk)
theorem wp_zret {z : Int} {ty : FieldType} {P : Option Value → List va_W → Prop} {PX : String → List va_W → Prop} (G : FxOk g F cc own nL d) (R : FxRet g F (some ty) P PX) (hn : narrow ty (iV z) = iV z) (dg : decode cc pc = .ok (.ireturn, 1)) (hp : P (some (iV z)) Bs) : Wp g F Bs K N pc L [iV z] :=
  wp_end R hp (fun _ _ _ hq hf => W.zret (v := Int32.ofInt z) G.hx G.hb R.1 hn hq hf dg G.hlk)
theorem wp_lret {z : Int} {P : Option Value → List va_W → Prop} {PX : String → List va_W → Prop} (G : FxOk g F cc own nL d) (R : FxRet g F (some .long) P PX) (dg : decode cc pc = .ok (.lreturn, 1)) (hp : P (some (jV z)) Bs) : Wp g F Bs K N pc L [jV z] :=
  wp_end R hp (fun _ _ _ hq hf => W.lret (v := Int64.ofInt z) G.hx G.hb R.1 hq hf dg G.hlk)
theorem wp_dret {z : UInt64} {P : Option Value → List va_W → Prop} {PX : String → List va_W → Prop} (G : FxOk g F cc own nL d) (R : FxRet g F (some .double) P PX) (dg : decode cc pc = .ok (.dreturn, 1)) (hp : P (some (.double z)) Bs) : Wp g F Bs K N pc L [.double z] :=
  wp_end R hp (fun _ _ _ hq hf => W.dret (v := z) G.hx G.hb R.1 hq hf dg G.hlk)
theorem wp_vret {P : Option Value → List va_W → Prop} {PX : String → List va_W → Prop} (G : FxOk g F cc own nL d) (R : FxRet g F none P PX) (dg : decode cc pc = .ok (.return_, 1)) (hp : P none Bs) : Wp g F Bs K N pc L [] :=
  wp_end R hp (fun _ _ _ hq hf => W.vret G.hx G.hb R.1 hq hf dg G.hlk)
theorem wp_aret {x : Option Nat} {rt : FieldType} {P : Option Value → List va_W → Prop} {PX : String → List va_W → Prop} (G : FxOk g F cc own nL d) (R : FxRet g F (some rt) P PX) (hrt : (∃ n, rt = .object n) ∨ ∃ t, rt = .array t) (dg : decode cc pc = .ok (.areturn, 1)) (hp : P (some (va_rf x)) Bs) : Wp g F Bs K N pc L [va_rf x] :=
  wp_end R hp (fun _ _ _ hq hf => W.aret (v := va_rf x) G.hx G.hb R.1 hrt (by cases x with | none => exact Or.inl rfl | some a => exact Or.inr ⟨a, rfl⟩) hq hf dg G.hlk)
theorem wp_objInit {idx a : Nat} (G : FxOk g F cc own nL d) (dg : decode cc pc = .ok (.invokespecial idx, 3)) (h1 : Cond.methodLink own idx Lib.objectInit ∈ lw_all) (h2 : Cond.instanceMethod Lib.objectInit ∈ lw_all) (h3 : Cond.code Lib.objectInit ⟨#[0xb1]⟩ 1 none ∈ lw_all) (hd : 1 ≤ d) (hst : (st.map fun v => v.category).sum ≤ 8) (kk : Wp g F Bs K N (pc + 3) L st) : Wp g F Bs K N pc L (.ref a :: st) := by
  intro H locs cells slots ls hP hN hS hlv h4 h5
  have r1 := G.rf
  have r2 := G.rl
  have r3 := lv_room (m := fxm F) (pc := pc) (ls := ls) (rest := .ref a :: st) hst
  exact W.objInit G.hx G.hb G.hown (G.hts _ h1) (G.hts _ h2) (G.hts _ h3) rfl hlv.1 rfl dg (by omega) (by omega) (kk H locs cells slots ls hP hN hS hlv h4 h5)
end LAY3
/-- a contract out of the walk of its body -/
theorem ct_of {g : GV} (hg : GOk g) {y : MethodName} {cc : ByteArray} {nL d mc ms : Nat} {ret : Option FieldType} {vs : List Value} {Bs : List va_W} {P : Option Value → List va_W → Prop} {PX : String → List va_W → Prop} (hy : plainName y.cls = true) (hnL : (lg_sl vs).length ≤ nL)
    (body : ∀ F : Fx, FxOk g F cc y.cls nL d → FxRet g F ret P PX → FxNo F → (fxh F).name = y.name → Wp g F Bs mc ms 0 (lv_args 0 vs) []) : Ct g (ws_ y cc nL ret) y d mc ms vs Bs P PX := by
  intro sz
  refine vx_ofW (cc := cc) (maxL := nL) (ret := ret) hy rfl ?_
  intro p e s m args below meth c s₁ B hml hno hv
  obtain ⟨rfl, hsz, hE, hP, hN⟩ := hv
  have hts := atoms_spec (ws := ws_ y cc nL ret) B.pre
  have hts : ∀ w ∈ lw_all, w.before _ s = true := fun w h => hts w (List.mem_cons_of_mem _ h)
  have hl := lv_entry vs (n := nL) hnL
  rw [lg_entry_eq]
  have K := body ((p, e, rmD d mc ms, s, m), (vs.toArray, below, meth, c), (wA Bs sz, vx_MQ below (ctQ g (wA Bs sz) P) (ctX g (wA Bs sz) PX) vs.toArray s mc ms (wA Bs sz), mc, ms))
    ⟨⟨B.exec, B.bytes, hml, findClass_of_methodNamed B.named⟩, hts, B.notSynchronized, ⟨hE, fun q hq => Or.inr (by rw [← hsz]; exact hq), fun q hq => ?_⟩, ⟨Nat.le_refl _, Nat.le_refl _, Nat.le_refl _, Nat.le_refl _⟩, hg⟩ ⟨B.returns, rfl⟩ hno (name_of_methodNamed B.named B.method).1
  · exact K s.heap [] 0 0 _ hP ⟨hN.1, fun q hq => Or.inl ⟨q.2, hq⟩⟩ va_S.rf (by rw [hml]; exact hl) (by show 0 + mc ≤ mc; omega) (by show 0 + ms ≤ ms; omega)
  · rcases hq with ⟨e9, he⟩ | hq
    · exact hN.2 _ he
    · have := hE.2.1
      omega
