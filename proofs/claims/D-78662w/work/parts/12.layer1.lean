/-! THE LAYER: one judgement (Wp) over blocks of cells, numbers as Int -/
set_option maxRecDepth 100000
abbrev GV : Type := Launch × va_G × (Nat → ClassId) × State × Array Value
abbrev g_l (g : GV) : Launch := g.1
abbrev g_D (g : GV) : va_G := g.2.1
abbrev g_c (g : GV) : Nat → ClassId := g.2.2.1
abbrev g_s (g : GV) : State := g.2.2.2.1
abbrev g_a (g : GV) : Array Value := g.2.2.2.2
def cl0 : List vw_C := [(RX1, TX1, 4), (RX2, TX2, 10), (RX3, TX3, 6), (RX4, TX4, 8), (RX5, TX5, 25), (RX6, TX6, 3), (RX7, TX7, 3), (RX8, TX8, 3), (RX9, TX9, 3), (RX10, TX10, 2), (RX11, TX11, 7), (RJ4, TJ4, 4), (RJ23, TJ23, 3), (RJ29, TJ29, 5), (RJ5, TJ5, 3), (RJ25, TJ25, 3), (RJ27, TJ27, 4), (RJ7, TJ7, 1)]
def tys0 (g : GV) : List (ClassId × FieldType) := [(g_c g 0, .int), (g_c g 1, .long), (g_c g 2, .byte), (g_c g 3, .double), (g_c g 4, .object "java/lang/Object"), (g_c g 5, .object "LakeLevels$Lake")]
/-- what the law's start gives, once for all -/
def GOk (g : GV) : Prop := (g_l g).stackTraces = false ∧ (∀ w ∈ lw_tbl, w.before (g_a g) (g_s g) = true) ∧ (Jvm.Cond.and given_1 narrow_1).before (g_a g) (g_s g) = true ∧ va_K (g_D g) cl0 (tys0 g) (g_s g)
def wP (g : GV) (Bs : List va_W) (H : Heap) : Prop := ∀ q ∈ Bs.flatten, va_at (g_D g) cl0 q H
def wN (A : Nat → Prop) (Bs : List va_W) : Prop := (Bs.flatten.map Prod.fst).Nodup ∧ ∀ q ∈ Bs.flatten, A q.1
def wA (Bs : List va_W) (sz : Nat) : Nat → Prop := fun q => (∃ e : va_E, (q, e) ∈ Bs.flatten) ∨ sz ≤ q
def wE (g : GV) (U : State) (H : Heap) : Prop := (g_s g).WarmedH U.vm ∧ (g_s g).heap.size ≤ H.size ∧ ∀ q : Nat, q < (g_s g).heap.size → H[q]? = (g_s g).heap[q]?
def ctP (g : GV) (Bs : List va_W) (sz : Nat) (U : State) : Prop := U.heap.size = sz ∧ wE g U U.heap ∧ wP g Bs U.heap ∧ wN (fun q => (g_s g).heap.size ≤ q) Bs
def ctQ (g : GV) (A : Nat → Prop) (P : Option Value → List va_W → Prop) : Array Value → State → Outcome → State → Prop := fun _ st o t => (∃ (v : Option Value) (Bs : List va_W), o = .returned v ∧ P v Bs ∧ wP g Bs t.heap ∧ wN A Bs) ∧ va_F A st t
def ctX (g : GV) (A : Nat → Prop) (PX : String → List va_W → Prop) : String → State → State → Prop := fun E st t => (∃ Bs : List va_W, PX E Bs ∧ wP g Bs t.heap ∧ wN A Bs) ∧ va_F A st t
def rmD (d mc ms : Nat) : Room := { frames := d, cells := mc, slots := ms, locals := 64 * d }
/-- a method's contract: from the blocks Bs and the values vs it returns so that P, or throws so that PX -/
def Ct (g : GV) (ws : List Cond) (y : MethodName) (d mc ms : Nat) (vs : List Value) (Bs : List va_W) (P : Option Value → List va_W → Prop) (PX : String → List va_W → Prop) : Prop :=
  ∀ sz : Nat, vx_Met (g_l g) y ws (rmD d mc ms) (va_Pc vs (ctP g Bs sz)) (ctQ g (wA Bs sz) P) (ctX g (wA Bs sz) PX) mc ms (wA Bs sz)
def noX : String → List va_W → Prop := fun _ _ => False
abbrev Fx : Type := (Program × Env × Room × State × MethodId) × (Array Value × List Frame × Method × Code) × ((Nat → Prop) × (State → Prop) × Nat × Nat)
abbrev fxp (F : Fx) : Program := F.1.1
abbrev fxe (F : Fx) : Env := F.1.2.1
abbrev fxR (F : Fx) : Room := F.1.2.2.1
abbrev fxs (F : Fx) : State := F.1.2.2.2.1
abbrev fxm (F : Fx) : MethodId := F.1.2.2.2.2
abbrev fxa (F : Fx) : Array Value := F.2.1.1
abbrev fxb (F : Fx) : List Frame := F.2.1.2.1
abbrev fxh (F : Fx) : Method := F.2.1.2.2.1
abbrev fxc (F : Fx) : Code := F.2.1.2.2.2
abbrev fxA (F : Fx) : Nat → Prop := F.2.2.1
abbrev fxQ (F : Fx) : State → Prop := F.2.2.2.1
abbrev fxK (F : Fx) : Nat := F.2.2.2.2.1
abbrev fxN (F : Fx) : Nat := F.2.2.2.2.2
/-- the machine at pc with these locals and this stack, the blocks Bs; K objects and N fields may still be made -/
def Wp (g : GV) (F : Fx) (Bs : List va_W) (K N : Nat) (pc : Nat) (L : List (Nat × Value)) (st : List Value) : Prop :=
  ∀ (H : Heap) (locs : List Loc) (cells slots : Nat) (ls : Array Slot), wP g Bs H → wN (fxA F) Bs → va_S (fxA F) (fxs F).heap H locs → lv_has ls (fxc F).maxLocals L → cells + K ≤ fxK F → slots + N ≤ fxN F →
    W (fxp F) (g_l g) (fxe F) (fxR F) (fxs F) (fxm F) (fxa F) (fxb F) (fxh F) (fxc F) H locs cells slots (fxQ F) (F0 (fxm F) pc ls st)
def FxOk (g : GV) (F : Fx) (cc : ByteArray) (own : String) (nL d : Nat) : Prop :=
  ((fxp F).tables.exec = Jvm.exec ∧ (fxc F).code = cc ∧ (fxc F).maxLocals = nL ∧ (fxs F).vm.findClass own = some (fxm F).cls) ∧ (∀ w ∈ lw_all, w.before (fxa F) (fxs F) = true) ∧ (fxh F).locks = false ∧ (wE g (fxs F) (fxs F).heap ∧ (∀ q : Nat, (fxs F).heap.size ≤ q → fxA F q) ∧ (∀ q : Nat, fxA F q → (g_s g).heap.size ≤ q)) ∧ (fxK F ≤ (fxR F).cells ∧ fxN F ≤ (fxR F).slots ∧ d ≤ (fxR F).frames ∧ 64 * d ≤ (fxR F).locals) ∧ GOk g
def FxRet (g : GV) (F : Fx) (ret : Option FieldType) (P : Option Value → List va_W → Prop) (PX : String → List va_W → Prop) : Prop :=
  (fxh F).sig.returnType = ret ∧ fxQ F = vx_MQ (fxb F) (ctQ g (fxA F) P) (ctX g (fxA F) PX) (fxa F) (fxs F) (fxK F) (fxN F) (fxA F)
def FxNo (F : Fx) : Prop := ∀ x ∈ (fxc F).exceptionTable.toList, False
section LAY1
variable {g : GV} {F : Fx} {cc : ByteArray} {own : String} {nL d : Nat}
theorem FxOk.hx (G : FxOk g F cc own nL d) : (fxp F).tables.exec = Jvm.exec := G.1.1
theorem FxOk.hb (G : FxOk g F cc own nL d) : (fxc F).code = cc := G.1.2.1
theorem FxOk.hml (G : FxOk g F cc own nL d) : (fxc F).maxLocals = nL := G.1.2.2.1
theorem FxOk.hown (G : FxOk g F cc own nL d) : (fxs F).vm.findClass own = some (fxm F).cls := G.1.2.2.2
theorem FxOk.hts (G : FxOk g F cc own nL d) : ∀ w ∈ lw_all, w.before (fxa F) (fxs F) = true := G.2.1
theorem FxOk.hlk (G : FxOk g F cc own nL d) : (fxh F).locks = false := G.2.2.1
theorem FxOk.hE (G : FxOk g F cc own nL d) : wE g (fxs F) (fxs F).heap := G.2.2.2.1.1
theorem FxOk.hA (G : FxOk g F cc own nL d) : ∀ q : Nat, (fxs F).heap.size ≤ q → fxA F q := G.2.2.2.1.2.1
theorem FxOk.hA0 (G : FxOk g F cc own nL d) : ∀ q : Nat, fxA F q → (g_s g).heap.size ≤ q := G.2.2.2.1.2.2
theorem FxOk.hK (G : FxOk g F cc own nL d) : va_K (g_D g) cl0 (tys0 g) (fxs F) := va_K.moved G.hE.1.alike G.2.2.2.2.2.2.2.2
theorem FxOk.gok (G : FxOk g F cc own nL d) : GOk g := G.2.2.2.2.2
theorem FxOk.rc (G : FxOk g F cc own nL d) : fxK F ≤ (fxR F).cells := G.2.2.2.2.1.1
theorem FxOk.rs (G : FxOk g F cc own nL d) : fxN F ≤ (fxR F).slots := G.2.2.2.2.1.2.1
theorem FxOk.rf (G : FxOk g F cc own nL d) : d ≤ (fxR F).frames := G.2.2.2.2.1.2.2.1
theorem FxOk.rl (G : FxOk g F cc own nL d) : 64 * d ≤ (fxR F).locals := G.2.2.2.2.1.2.2.2
/-- the numbers as Int -/
def iV (z : Int) : Value := .int (Int32.ofInt z)
def jV (z : Int) : Value := .long (Int64.ofInt z)
theorem i32_toInt {z : Int} (h : -2147483648 ≤ z ∧ z ≤ 2147483647) : (Int32.ofInt z).toInt = z := Int32.toInt_ofInt_of_le (by omega) (by omega)
theorem i64_toInt {z : Int} (h : -9223372036854775808 ≤ z ∧ z ≤ 9223372036854775807) : (Int64.ofInt z).toInt = z := Int64.toInt_ofInt_of_le (by omega) (by omega)
theorem i32_eq {x y : Int} (hx : -2147483648 ≤ x ∧ x ≤ 2147483647) (hy : -2147483648 ≤ y ∧ y ≤ 2147483647) : Int32.ofInt x = Int32.ofInt y ↔ x = y :=
  ⟨fun h => by have h2 := congrArg Int32.toInt h; rwa [i32_toInt hx, i32_toInt hy] at h2, fun h => by rw [h]⟩
theorem i32_le {x y : Int} (hx : -2147483648 ≤ x ∧ x ≤ 2147483647) (hy : -2147483648 ≤ y ∧ y ≤ 2147483647) : Int32.ofInt x ≤ Int32.ofInt y ↔ x ≤ y := by
  rw [Int32.le_iff_toInt_le, i32_toInt hx, i32_toInt hy]
theorem i32_lt {x y : Int} (hx : -2147483648 ≤ x ∧ x ≤ 2147483647) (hy : -2147483648 ≤ y ∧ y ≤ 2147483647) : Int32.ofInt x < Int32.ofInt y ↔ x < y := by
  rw [Int32.lt_iff_toInt_lt, i32_toInt hx, i32_toInt hy]
theorem i64_eq {x y : Int} (hx : -9223372036854775808 ≤ x ∧ x ≤ 9223372036854775807) (hy : -9223372036854775808 ≤ y ∧ y ≤ 9223372036854775807) : Int64.ofInt x = Int64.ofInt y ↔ x = y :=
  ⟨fun h => by have h2 := congrArg Int64.toInt h; rwa [i64_toInt hx, i64_toInt hy] at h2, fun h => by rw [h]⟩
theorem i64_le {x y : Int} (hx : -9223372036854775808 ≤ x ∧ x ≤ 9223372036854775807) (hy : -9223372036854775808 ≤ y ∧ y ≤ 9223372036854775807) : Int64.ofInt x ≤ Int64.ofInt y ↔ x ≤ y := by
  rw [Int64.le_iff_toInt_le, i64_toInt hx, i64_toInt hy]
theorem i64_lt {x y : Int} (hx : -9223372036854775808 ≤ x ∧ x ≤ 9223372036854775807) (hy : -9223372036854775808 ≤ y ∧ y ≤ 9223372036854775807) : Int64.ofInt x < Int64.ofInt y ↔ x < y := by
  rw [Int64.lt_iff_toInt_lt, i64_toInt hx, i64_toInt hy]
theorem i32_l {z : Int} (h : -2147483648 ≤ z ∧ z ≤ 2147483647) : (Int32.ofInt z).toInt64 = Int64.ofInt z := by
  apply Int64.toInt_inj.mp
  rw [Int32.toInt_toInt64, i32_toInt h, i64_toInt (by omega)]
theorem i64_i (z : Int) : (Int64.ofInt z).toInt32 = Int32.ofInt z := Int64.toInt32_ofInt
theorem i32_cl {z : Int} (h : 0 ≤ z ∧ z ≤ 2147483647) : (Int32.ofInt z).toNatClampNeg = z.toNat := Int32.toNatClampNeg_ofInt_of_le (by omega) (by omega)
theorem i32_in {i : Int} {n : Nat} (h : 0 ≤ i ∧ i < (n : Int)) (hn : n ≤ 2147483648) : vp_in (Int32.ofInt i) n := by
  rw [vp_in_iff, i32_toInt (by omega)]
  exact h
/-- a store into an array of whole numbers; contents go by Int -/
def fup {α : Type} (f : Int → α) (k : Int) (x : α) : Int → α := fun j => if j = k then x else f j
theorem fup_s {α : Type} (f : Int → α) (k : Int) (x : α) : fup f k x k = x := by simp [fup]
theorem fup_n {α : Type} (f : Int → α) {k j : Int} (x : α) (h : j ≠ k) : fup f k x j = f j := by simp [fup, h]
def aI (g : GV) (n : Nat) (f : Int → Int) : va_E := .inl (g_c g 0, n, .inl (fun k => Int32.ofInt (f (k : Int))))
def aJ (g : GV) (n : Nat) (f : Int → Int) : va_E := .inl (g_c g 1, n, .inr (.inl (fun k => Int64.ofInt (f (k : Int)))))
def aB (g : GV) (n : Nat) (f : Int → Int) : va_E := .inl (g_c g 2, n, .inl (fun k => Int32.ofInt (f (k : Int))))
def aD (g : GV) (n : Nat) (f : Int → UInt64) : va_E := .inl (g_c g 3, n, .inr (.inr (.inr (.inl (fun k => f (k : Int))))))
def aR (c : ClassId) (n : Nat) (f : Int → Option Nat) : va_E := .inl (c, n, .inr (.inr (.inr (.inr (fun k => f (k : Int))))))
theorem fup_g {α β : Type} (c : α → β) (f : Int → α) {k : Int} (hk : 0 ≤ k) (x : α) : (fun j : Nat => c (fup f k x (j : Int))) = (fun j : Nat => if j = k.toNat then c x else c (f (j : Int))) := by
  funext j
  by_cases h : j = k.toNat
  · have e : (j : Int) = k := by omega
    rw [if_pos h, fup, if_pos e]
  · have e : (j : Int) ≠ k := by omega
    rw [if_neg h, fup, if_neg e]
theorem fup_32 (f : Int → Int) {k : Int} (hk : 0 ≤ k) (x : Int) : (fun j : Nat => Int32.ofInt (fup f k x (j : Int))) = upd (fun j : Nat => Int32.ofInt (f (j : Int))) k.toNat (Int32.ofInt x) := fup_g Int32.ofInt f hk x
theorem fup_64 (f : Int → Int) {k : Int} (hk : 0 ≤ k) (x : Int) : (fun j : Nat => Int64.ofInt (fup f k x (j : Int))) = vp_updL (fun j : Nat => Int64.ofInt (f (j : Int))) k.toNat (Int64.ofInt x) := fup_g Int64.ofInt f hk x
theorem fup_d (f : Int → UInt64) {k : Int} (hk : 0 ≤ k) (x : UInt64) : (fun j : Nat => fup f k x (j : Int)) = vf_upd (fun j : Nat => f (j : Int)) k.toNat x := fup_g id f hk x
theorem fup_r (f : Int → Option Nat) {k : Int} (hk : 0 ≤ k) (x : Option Nat) : (fun j : Nat => fup f k x (j : Int)) = va_up (fun j : Nat => f (j : Int)) k.toNat x := fup_g id f hk x
/-! worlds -/
theorem wP.mono {Bs Bs' : List va_W} {H : Heap} (h : wP g Bs H) (hs : ∀ q ∈ Bs'.flatten, q ∈ Bs.flatten) : wP g Bs' H := fun q hq => h q (hs q hq)
theorem wP.kept {Bs : List va_W} {H H1 : Heap} (h : wP g Bs H) (hq : ∀ q ∈ Bs.flatten, H1[q.1]? = H[q.1]?) : wP g Bs H1 := fun q h1 => (h q h1).kept (hq q h1)
theorem mem_blk {Bs : List va_W} {i : Nat} {B : va_W} (hB : Bs[i]? = some B) {q : Nat × va_E} (hq : q ∈ B) : q ∈ Bs.flatten := List.mem_flatten.mpr ⟨B, List.mem_of_getElem? hB, hq⟩
theorem mem_cell {Bs : List va_W} {i j : Nat} {B : va_W} (hB : Bs[i]? = some B) {q : Nat × va_E} (hq : B[j]? = some q) : q ∈ Bs.flatten := mem_blk hB (List.mem_of_getElem? hq)
/-- the cells are the same, in another order or fewer -/
theorem wp_perm {Bs Bs' : List va_W} {K N pc : Nat} {L : List (Nat × Value)} {st : List Value} (h : List.Perm Bs.flatten Bs'.flatten) (k : Wp g F Bs' K N pc L st) : Wp g F Bs K N pc L st := by
  intro H locs cells slots ls hP hN hS hl hc hs
  exact k H locs cells slots ls (hP.mono fun q hq => h.mem_iff.mpr hq) ⟨((h.map Prod.fst).nodup_iff).mp hN.1, fun q hq => hN.2 q (h.mem_iff.mpr hq)⟩ hS hl hc hs
theorem wp_eqB {Bs Bs' : List va_W} {K N pc : Nat} {L : List (Nat × Value)} {st : List Value} (h : Bs = Bs') (k : Wp g F Bs' K N pc L st) : Wp g F Bs K N pc L st := h ▸ k
theorem wp_drop {Bs Bs' : List va_W} {K N pc : Nat} {L : List (Nat × Value)} {st : List Value} (h : List.Sublist Bs'.flatten Bs.flatten) (k : Wp g F Bs' K N pc L st) : Wp g F Bs K N pc L st := by
  intro H locs cells slots ls hP hN hS hl hc hs
  exact k H locs cells slots ls (hP.mono fun q hq => h.subset hq) ⟨(h.map Prod.fst).nodup hN.1, fun q hq => hN.2 q (h.subset hq)⟩ hS hl hc hs
theorem wp_loc {Bs : List va_W} {K N pc : Nat} {L L' : List (Nat × Value)} {st : List Value} (h : L = L') (k : Wp g F Bs K N pc L' st) : Wp g F Bs K N pc L st := h ▸ k
/-- fewer locals, by their places -/
theorem wp_sub {Bs : List va_W} {K N pc : Nat} {L L' : List (Nat × Value)} {st : List Value} (ks : List Nat) (h : lv_pick L ks = L') (k : Wp g F Bs K N pc L' st) : Wp g F Bs K N pc L st :=
  fun H locs cells slots ls hP hN hS hl hc hs => k H locs cells slots ls hP hN hS (lv_sub hl ks h) hc hs
theorem wp_stk {Bs : List va_W} {K N pc : Nat} {L : List (Nat × Value)} {st st' : List Value} (h : st = st') (k : Wp g F Bs K N pc L st') : Wp g F Bs K N pc L st := h ▸ k
/-- less room -/
theorem wp_room {Bs : List va_W} {K N K' N' pc : Nat} {L : List (Nat × Value)} {st : List Value} (h1 : K' ≤ K) (h2 : N' ≤ N) (k : Wp g F Bs K' N' pc L st) : Wp g F Bs K N pc L st :=
  fun H locs cells slots ls hP hN hS hl hc hs => k H locs cells slots ls hP hN hS hl (by omega) (by omega)
/-- what a heap says of a world while it stands: the addresses are apart -/
theorem wp_fact {Bs : List va_W} {K N pc : Nat} {L : List (Nat × Value)} {st : List Value} (k : (Bs.flatten.map Prod.fst).Nodup → Wp g F Bs K N pc L st) : Wp g F Bs K N pc L st :=
  fun H locs cells slots ls hP hN hS hl hc hs => k hN.1 H locs cells slots ls hP hN hS hl hc hs
end LAY1
