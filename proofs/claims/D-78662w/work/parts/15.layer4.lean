/-! THE LAYER, fourth part: calls -/
set_option maxRecDepth 100000
/-- an exception of class E stands at pc -/
def Wx (g : GV) (F : Fx) (Bs : List va_W) (K N : Nat) (pc : Nat) (L : List (Nat × Value)) (st : List Value) (E : String) : Prop :=
  ∀ (H : Heap) (locs : List Loc) (cells slots : Nat) (ls : Array Slot) (q : Addr) (ce : Cell), wP g Bs H → wN (fxA F) Bs → va_S (fxA F) (fxs F).heap H locs → lv_has ls (fxc F).maxLocals L → cells + K ≤ fxK F → slots + N ≤ fxN F → H[q]? = some ce → ce.vm = .none → (fxs F).vm.findClass E = some ce.cls →
    vx_W (fxp F) (g_l g) (fxe F) (fxR F) (fxs F) (fxm F) (fxa F) (fxb F) (fxh F) (fxc F) H locs cells slots (fxQ F) (F0 (fxm F) pc ls st) q
def selB (Bs : List va_W) (is : List Nat) : List va_W := is.filterMap (fun i => Bs[i]?)
theorem l_ids {α : Type} (l : List α) : (List.range l.length).filterMap (fun i => l[i]?) = l := by
  induction l with
  | nil => rfl
  | cons a l ih =>
    rw [List.length_cons, List.range_succ_eq_map, List.filterMap_cons]
    simp only [List.getElem?_cons_zero, List.filterMap_map]
    congr 1
/-- the blocks at the places is, and those at the places js: all of them -/
theorem sel_of {Bs Bc Br : List va_W} {n : Nat} (is js : List Nat) (hn : Bs.length = n) (hp : (is ++ js).isPerm (List.range n) = true) (hc : selB Bs is = Bc) (hr : selB Bs js = Br) : List.Perm Bs.flatten (Bc ++ Br).flatten := by
  have h1 : List.Perm (is ++ js) (List.range n) := List.isPerm_iff.mp hp
  have h2 : List.Perm (selB Bs (is ++ js)) (selB Bs (List.range n)) := List.Perm.filterMap _ h1
  have h3 : selB Bs (List.range n) = Bs := by
    subst hn
    exact l_ids Bs
  have h4 : selB Bs (is ++ js) = Bc ++ Br := by rw [← hc, ← hr]; exact List.filterMap_append
  rw [h3, h4] at h2
  exact h2.symm.flatten
section LAY4
variable {g : GV} {F : Fx} {cc : ByteArray} {own : String} {nL d : Nat} {Bs Bs' Bc Br : List va_W} {K N pc : Nat} {L : List (Nat × Value)} {st stk : List Value}
theorem wA_sub (G : FxOk g F cc own nL d) {H : Heap} {locs : List Loc} (hsel : List.Perm Bs.flatten (Bc ++ Br).flatten) (hN : wN (fxA F) Bs) (hS : va_S (fxA F) (fxs F).heap H locs) : ∀ q : Nat, wA Bc H.size q → fxA F q := by
  intro q hq
  rcases hq with ⟨e, he⟩ | hq
  · refine hN.2 (q, e) (hsel.mem_iff.mpr ?_)
    rw [List.flatten_append]
    exact List.mem_append_left _ he
  · exact G.hA q (Nat.le_trans hS.1 hq)
/-- what a callee left, beside the rest of the world, which is unchanged -/
theorem w_join (G : FxOk g F cc own nL d) {H H1 : Heap} {locs Lc : List Loc} {B' : List va_W} (hsel : List.Perm Bs.flatten (Bc ++ Br).flatten) (hP : wP g Bs H) (hN : wN (fxA F) Bs) (hS : va_S (fxA F) (fxs F).heap H locs) (hP' : wP g B' H1) (hN' : wN (wA Bc H.size) B') (hsz : H.size ≤ H1.size) (hk : ∀ q : Nat, q < H.size → ¬ wA Bc H.size q → H1[q]? = H[q]?) (hL : ∀ q ∈ Lc, wA Bc H.size q.base) :
    wP g (B' ++ Br) H1 ∧ wN (fxA F) (B' ++ Br) ∧ va_S (fxA F) (fxs F).heap H1 (locs ++ Lc) := by
  have hsub := wA_sub G hsel hN hS
  have hnd : ((Bc ++ Br).flatten.map Prod.fst).Nodup := ((hsel.map Prod.fst).nodup_iff).mp hN.1
  rw [List.flatten_append, List.map_append, List.nodup_append] at hnd
  obtain ⟨-, hndr, hdis⟩ := hnd
  have inBr : ∀ q ∈ Br.flatten, q ∈ Bs.flatten := fun q hq => hsel.mem_iff.mpr (by rw [List.flatten_append]; exact List.mem_append_right _ hq)
  have hlt : ∀ q ∈ Br.flatten, q.1 < H.size := fun q hq => (hP q (inBr q hq)).lt
  have hnA : ∀ q ∈ Br.flatten, ¬ wA Bc H.size q.1 := by
    intro q hq h
    rcases h with ⟨e, he⟩ | h
    · exact hdis q.1 (List.mem_map.mpr ⟨_, he, rfl⟩) q.1 (List.mem_map.mpr ⟨q, hq, rfl⟩) rfl
    · have := hlt q hq
      omega
  refine ⟨?_, ⟨?_, ?_⟩, ?_⟩
  · intro q hq
    rw [List.flatten_append] at hq
    rcases List.mem_append.mp hq with h | h
    · exact hP' q h
    · exact (hP q (inBr q h)).kept (hk q.1 (hlt q h) (hnA q h))
  · rw [List.flatten_append, List.map_append, List.nodup_append]
    refine ⟨hN'.1, hndr, fun a ha b hb hab => ?_⟩
    obtain ⟨x, hx, rfl⟩ := List.mem_map.mp ha
    obtain ⟨y, hy, rfl⟩ := List.mem_map.mp hb
    exact hnA y hy (by rw [← hab]; exact hN'.2 x hx)
  · intro q hq
    rw [List.flatten_append] at hq
    rcases List.mem_append.mp hq with h | h
    · exact hsub q.1 (hN'.2 q h)
    · exact hN.2 q (inBr q h)
  · refine ⟨Nat.le_trans hS.1 hsz, fun q h1 h2 => ?_, fun q hq => ?_⟩
    · rw [hk q (Nat.lt_of_lt_of_le h1 hS.1) (fun h => h2 (hsub q h))]
      exact hS.2.1 q h1 h2
    · rcases List.mem_append.mp hq with h | h
      · exact hS.2.2 q h
      · exact hsub _ (hL q h)
/-- a call that has run: behind it the callee's blocks and the rest -/
theorem wp_core {mc ms K' N' : Nat} {P : Option Value → List va_W → Prop} {PX : String → List va_W → Prop} {aa : Array Value} (G : FxOk g F cc own nL d) (hsel : List.Perm Bs.flatten (Bc ++ Br).flatten) (hK : mc + K' ≤ K) (hN : ms + N' ≤ N)
    (run : ∀ (H : Heap) (locs : List Loc) (cells slots : Nat) (ls : Array Slot), wP g Bs H → wN (fxA F) Bs → va_S (fxA F) (fxs F).heap H locs → lv_has ls (fxc F).maxLocals L → cells + K ≤ fxK F → slots + N ≤ fxN F → vx_Run (fxp F) (g_l g) (fxe F) (fxR F) (fxs F) (fxm F) (fxa F) (fxb F) (fxh F) (fxc F) H locs cells slots mc ms (F0 (fxm F) pc ls stk) st (ctQ g (wA Bc H.size) P aa) (ctX g (wA Bc H.size) PX) (wA Bc H.size))
    (kx : ∀ (E : String) (B' : List va_W), PX E B' → Wx g F (B' ++ Br) K' N' pc L st E)
    (kk : ∀ (v : Option Value) (B' : List va_W), P v B' → Wp g F (B' ++ Br) K' N' (pc + 3) L (v.toList ++ st)) : Wp g F Bs K N pc L stk := by
  intro H locs cells slots ls hP hN9 hS hlv h1 h2 T hT X
  rcases run H locs cells slots ls hP hN9 hS hlv h1 h2 T hT X with ⟨v, st₀, t, T', Lc, h0, X', hL, e1, e2, ⟨⟨v', B', hv, hp, hP', hN'⟩, hF⟩, sg⟩ | ⟨q, st₀, t, T', Lc, E, ce, h0, X', hL, e1, e2, ⟨⟨B', hp, hP', hN'⟩, hF⟩, hce, hcv, hcl, sg⟩
  · cases hv
    have hF1 := hF.1
    have hF2 := hF.2
    rw [h0, ← e1] at hF1 hF2
    rw [← e1] at hP'
    obtain ⟨j1, j2, j3⟩ := w_join G hsel hP hN9 hS hP' hN' hF1 hF2 hL
    obtain ⟨t2, a1, b1⟩ := kk v B' hp T'.heap (locs ++ Lc) (cells + mc) (slots + ms) ls j1 j2 j3 hlv (by omega) (by omega) T' rfl X'
    exact ⟨t2, sg t2 a1, b1⟩
  · have hF1 := hF.1
    have hF2 := hF.2
    rw [h0, ← e1] at hF1 hF2
    rw [← e1] at hP' hce
    obtain ⟨j1, j2, j3⟩ := w_join G hsel hP hN9 hS hP' hN' hF1 hF2 hL
    obtain ⟨t2, a1, b1⟩ := kx E B' hp T'.heap (locs ++ Lc) (cells + mc) (slots + ms) ls q ce j1 j2 j3 hlv (by omega) (by omega) hce hcv hcl T' rfl X'
    exact ⟨t2, Steps.trans sg a1, b1⟩
theorem ct_blind {vs : List Value} {sz : Nat} : FrameBlind (va_Pc vs (ctP g Bc sz)) := fun _ _ _ _ h => h
theorem ct_pre (G : FxOk g F cc own nL d) {H : Heap} {locs : List Loc} {vs : List Value} (hsel : List.Perm Bs.flatten (Bc ++ Br).flatten) (hP : wP g Bs H) (hN : wN (fxA F) Bs) (hS : va_S (fxA F) (fxs F).heap H locs) : ∀ U : State, U.heap = H → (fxs F).WarmedH U.vm → va_Pc vs (ctP g Bc H.size) vs.toArray U := by
  intro U hU hW
  have hE := G.hE
  have inBc : ∀ q ∈ Bc.flatten, q ∈ Bs.flatten := fun q hq => hsel.mem_iff.mpr (by rw [List.flatten_append]; exact List.mem_append_left _ hq)
  have hnd : ((Bc ++ Br).flatten.map Prod.fst).Nodup := ((hsel.map Prod.fst).nodup_iff).mp hN.1
  rw [List.flatten_append, List.map_append, List.nodup_append] at hnd
  refine ⟨rfl, by rw [hU], ⟨State.WarmedH.trans hE.1 hW, by rw [hU]; exact Nat.le_trans hE.2.1 hS.1, fun q hq => ?_⟩, by rw [hU]; exact hP.mono inBc, hnd.1, fun q hq => G.hA0 _ (hN.2 q (inBc q hq))⟩
  rw [hU, hS.2.1 q (Nat.lt_of_lt_of_le hq hE.2.1) (fun h => by have := G.hA0 q h; omega)]
  exact hE.2.2 q hq
/-- the receiver's class -/
theorem ct_recv (G : FxOk g F cc own nL d) {H : Heap} {b ci : Nat} {fs : List Value} {r : vw_C} (hP : wP g Bs H) (hb : (b, .inr (ci, fs)) ∈ Bs.flatten) (hc : cl0[ci]? = some r) : ∃ cellB : Cell, H[b]? = some cellB ∧ cellB.vm.isStatics = false ∧ (fxs F).vm.findClass r.1 = some cellB.cls := by
  obtain ⟨q0, hq⟩ := List.getElem?_of_mem hb
  exact va_recv G.hK (wP_va hP) hc hq
theorem ct_fix (G : FxOk g F cc own nL d) : CallFix (fxp F) (fxm F) (fxc F) cc nL (fxs F) (fxa F) lw_all own := ⟨G.hx, G.hb, G.hml, G.hown, G.hts⟩
theorem ct_room (G : FxOk g F cc own nL d) {d' mc ms maxL : Nat} (hd : d' + 1 ≤ d) (hm : maxL ≤ 45) : (rmD d' mc ms).frames + 1 ≤ (fxR F).frames ∧ 8 + (maxL + 11) + (rmD d' mc ms).locals ≤ (fxR F).locals := by
  have h1 := G.rf
  have h2 := G.rl
  refine ⟨by show d' + 1 ≤ _; omega, by show 8 + (maxL + 11) + 64 * d' ≤ _; omega⟩
/-- what the tables say of a call at an entry of the constants -/
def okM (y : MethodName) (n : Nat) : Prop := y.cls ≠ "java/lang/invoke/MethodHandle" ∧ y.cls ≠ "java/lang/invoke/VarHandle" ∧ (parseMethodDescriptor y.desc).map (fun d => d.parameters.length) = some n
def KV (own : String) (idx : Nat) (C : String) (y : MethodName) (code : ByteArray) (maxL : Nat) (ret : Option FieldType) (n : Nat) : Prop := GoodIn lw_all (wsV own idx C y (ws_ y code maxL ret)) ∧ y.cls = C ∧ okM y n
def KS (own : String) (idx : Nat) (y : MethodName) (code : ByteArray) (maxL : Nat) (ret : Option FieldType) (n : Nat) : Prop := GoodIn lw_all (va_wsS own idx y (ws_ y code maxL ret)) ∧ okM y n
def KI (own : String) (idx : Nat) (y : MethodName) (code : ByteArray) (maxL : Nat) (n : Nat) : Prop := Cond.code y code maxL none ∈ lw_all ∧ Cond.initialized y.cls ∈ lw_all ∧ Cond.methodLink own idx y ∈ lw_all ∧ Cond.instanceMethod y ∈ lw_all ∧ y.name = "<init>" ∧ okM y n
def KVN (own : String) (idx : Nat) (C : String) (y : MethodName) (code : ByteArray) (maxL : Nat) (ret : Option FieldType) (n : Nat) (host : String) : Prop := Cond.code y code maxL ret ∈ lw_all ∧ Cond.initialized y.cls ∈ lw_all ∧ Cond.methodLinkNest own idx y host ∈ lw_tbl ∧ Cond.instanceMethod y ∈ lw_all ∧ Cond.selects C y y ∈ lw_all ∧ okM y n
def KSN (own : String) (idx : Nat) (y : MethodName) (code : ByteArray) (maxL : Nat) (ret : Option FieldType) (n : Nat) (host : String) : Prop := Cond.code y code maxL ret ∈ lw_all ∧ Cond.initialized y.cls ∈ lw_all ∧ Cond.methodLinkNest own idx y host ∈ lw_tbl ∧ Cond.static y ∈ lw_all ∧ okM y n
def KIN (own : String) (idx : Nat) (y : MethodName) (code : ByteArray) (maxL : Nat) (n : Nat) (host : String) : Prop := Cond.code y code maxL none ∈ lw_all ∧ Cond.initialized y.cls ∈ lw_all ∧ Cond.methodLinkNest own idx y host ∈ lw_tbl ∧ Cond.instanceMethod y ∈ lw_all ∧ y.name = "<init>" ∧ okM y n
variable {P : Option Value → List va_W → Prop} {PX : String → List va_W → Prop} {y : MethodName} {code : ByteArray} {maxL n d' mc ms K' N' idx : Nat} {ret : Option FieldType} {As fs : List Value} {b ci : Nat} {r : vw_C} {host : String}
theorem wp_callV (G : FxOk g F cc own nL d) (dg : decode cc pc = .ok (.invokevirtual idx, 3)) (kv : KV own idx r.1 y code maxL ret n) (hC : Ct g (ws_ y code maxL ret) y d' mc ms (.ref b :: As) Bc P PX) (hsel : List.Perm Bs.flatten (Bc ++ Br).flatten) (hb : (b, .inr (ci, fs)) ∈ Bs.flatten) (hc : cl0[ci]? = some r) (hn : As.length = n) (hstk : stk = As.reverse ++ .ref b :: st) (hd : d' + 1 ≤ d) (hm : maxL ≤ 45) (hst : (st.map fun v => v.category).sum ≤ 8) (hK : mc + K' ≤ K) (hN : ms + N' ≤ N)
    (kx : ∀ (E : String) (B' : List va_W), PX E B' → Wx g F (B' ++ Br) K' N' pc L st E) (kk : ∀ (v : Option Value) (B' : List va_W), P v B' → Wp g F (B' ++ Br) K' N' (pc + 3) L (v.toList ++ st)) : Wp g F Bs K N pc L stk := by
  refine wp_core (aa := (Value.ref b :: As).toArray) G hsel hK hN (fun H locs cells slots ls hP hN9 hS hlv h1 h2 => ?_) kx kk
  have hrc := G.rc
  have hrs := G.rs
  exact vx_runV (As := As) (rest := st) (ct_fix G) (hC H.size) (cwV n G.hts kv.1 rfl rfl rfl kv.2 (ct_room G hd hm)) ⟨ct_blind, ct_recv G hP hb hc, ct_pre G hsel hP hN9 hS⟩ rfl hn (hlv.1.trans G.hml) hstk (lv_room hst) dg ⟨by omega, by omega⟩
theorem wp_callS (G : FxOk g F cc own nL d) (dg : decode cc pc = .ok (.invokestatic idx, 3)) (kv : KS own idx y code maxL ret n) (hC : Ct g (ws_ y code maxL ret) y d' mc ms As Bc P PX) (hsel : List.Perm Bs.flatten (Bc ++ Br).flatten) (hn : As.length = n) (hstk : stk = As.reverse ++ st) (hd : d' + 1 ≤ d) (hm : maxL ≤ 45) (hst : (st.map fun v => v.category).sum ≤ 8) (hK : mc + K' ≤ K) (hN : ms + N' ≤ N)
    (kx : ∀ (E : String) (B' : List va_W), PX E B' → Wx g F (B' ++ Br) K' N' pc L st E) (kk : ∀ (v : Option Value) (B' : List va_W), P v B' → Wp g F (B' ++ Br) K' N' (pc + 3) L (v.toList ++ st)) : Wp g F Bs K N pc L stk := by
  refine wp_core (aa := As.toArray) G hsel hK hN (fun H locs cells slots ls hP hN9 hS hlv h1 h2 => ?_) kx kk
  have hrc := G.rc
  have hrs := G.rs
  exact vx_runS (As := As) (rest := st) (ct_fix G) (hC H.size) (va_cwS n G.hts kv.1 rfl rfl rfl kv.2 (ct_room G hd hm)) ⟨ct_blind, ct_pre G hsel hP hN9 hS⟩ rfl hn (hlv.1.trans G.hml) hstk (lv_room hst) dg ⟨by omega, by omega⟩
theorem wp_callI (G : FxOk g F cc own nL d) (dg : decode cc pc = .ok (.invokespecial idx, 3)) (kv : KI own idx y code maxL n) (hC : Ct g (ws_ y code maxL none) y d' mc ms (.ref b :: As) Bc P PX) (hsel : List.Perm Bs.flatten (Bc ++ Br).flatten) (hn : As.length = n) (hstk : stk = As.reverse ++ .ref b :: st) (hd : d' + 1 ≤ d) (hm : maxL ≤ 45) (hst : (st.map fun v => v.category).sum ≤ 8) (hK : mc + K' ≤ K) (hN : ms + N' ≤ N)
    (kx : ∀ (E : String) (B' : List va_W), PX E B' → Wx g F (B' ++ Br) K' N' pc L st E) (kk : ∀ (v : Option Value) (B' : List va_W), P v B' → Wp g F (B' ++ Br) K' N' (pc + 3) L (v.toList ++ st)) : Wp g F Bs K N pc L stk := by
  obtain ⟨k1, k2, k3, k4, k5, k6⟩ := kv
  refine wp_core (aa := (Value.ref b :: As).toArray) G hsel hK hN (fun H locs cells slots ls hP hN9 hS hlv h1 h2 => ?_) kx kk
  have hrc := G.rc
  have hrs := G.rs
  exact vx_runI (As := As) (rest := st) (ct_fix G) (hC H.size) (cwI n G.hts (lw_meth k1) rfl rfl rfl (G.hts _ k2) (G.hts _ k3) (G.hts _ k4) k5 k6 (ct_room G hd hm)) ⟨ct_blind, ct_pre (vs := .ref b :: As) G hsel hP hN9 hS⟩ rfl hn (hlv.1.trans G.hml) hstk (lv_room hst) dg ⟨by omega, by omega⟩
theorem nw_M (G : FxOk g F cc own nL d) (h : Cond.methodLinkNest own idx y host ∈ lw_tbl) : va_Nw (.methodLinkNest own idx y host) (fxs F) := va_Nw.warmM G.hE.1 (nw_tbl G h rfl)
theorem wp_callVN (G : FxOk g F cc own nL d) (dg : decode cc pc = .ok (.invokevirtual idx, 3)) (kv : KVN own idx r.1 y code maxL ret n host) (hC : Ct g (ws_ y code maxL ret) y d' mc ms (.ref b :: As) Bc P PX) (hsel : List.Perm Bs.flatten (Bc ++ Br).flatten) (hb : (b, .inr (ci, fs)) ∈ Bs.flatten) (hc : cl0[ci]? = some r) (hn : As.length = n) (hstk : stk = As.reverse ++ .ref b :: st) (hd : d' + 1 ≤ d) (hm : maxL ≤ 45) (hst : (st.map fun v => v.category).sum ≤ 8) (hK : mc + K' ≤ K) (hN : ms + N' ≤ N)
    (kx : ∀ (E : String) (B' : List va_W), PX E B' → Wx g F (B' ++ Br) K' N' pc L st E) (kk : ∀ (v : Option Value) (B' : List va_W), P v B' → Wp g F (B' ++ Br) K' N' (pc + 3) L (v.toList ++ st)) : Wp g F Bs K N pc L stk := by
  obtain ⟨k1, k2, k3, k4, k5, k6⟩ := kv
  refine wp_core (aa := (Value.ref b :: As).toArray) G hsel hK hN (fun H locs cells slots ls hP hN9 hS hlv h1 h2 => ?_) kx kk
  have hrc := G.rc
  have hrs := G.rs
  exact vx_runVN (As := As) (rest := st) (ct_fix G) (hC H.size) ⟨va_cnB n G.hts (lw_meth k1) rfl rfl rfl (nw_M G k3) (G.hts _ k2) k6 (ct_room G hd hm), G.hts _ k4, G.hts _ k5⟩ ⟨ct_blind, ct_recv G hP hb hc, ct_pre G hsel hP hN9 hS⟩ rfl hn (hlv.1.trans G.hml) hstk (lv_room hst) dg ⟨by omega, by omega⟩
theorem wp_callSN (G : FxOk g F cc own nL d) (dg : decode cc pc = .ok (.invokestatic idx, 3)) (kv : KSN own idx y code maxL ret n host) (hC : Ct g (ws_ y code maxL ret) y d' mc ms As Bc P PX) (hsel : List.Perm Bs.flatten (Bc ++ Br).flatten) (hn : As.length = n) (hstk : stk = As.reverse ++ st) (hd : d' + 1 ≤ d) (hm : maxL ≤ 45) (hst : (st.map fun v => v.category).sum ≤ 8) (hK : mc + K' ≤ K) (hN : ms + N' ≤ N)
    (kx : ∀ (E : String) (B' : List va_W), PX E B' → Wx g F (B' ++ Br) K' N' pc L st E) (kk : ∀ (v : Option Value) (B' : List va_W), P v B' → Wp g F (B' ++ Br) K' N' (pc + 3) L (v.toList ++ st)) : Wp g F Bs K N pc L stk := by
  obtain ⟨k1, k2, k3, k4, k6⟩ := kv
  refine wp_core (aa := As.toArray) G hsel hK hN (fun H locs cells slots ls hP hN9 hS hlv h1 h2 => ?_) kx kk
  have hrc := G.rc
  have hrs := G.rs
  exact vx_runSN (As := As) (rest := st) (ct_fix G) (hC H.size) ⟨va_cnB n G.hts (lw_meth k1) rfl rfl rfl (nw_M G k3) (G.hts _ k2) k6 (ct_room G hd hm), G.hts _ k4, trivial⟩ ⟨ct_blind, ct_pre G hsel hP hN9 hS⟩ rfl hn (hlv.1.trans G.hml) hstk (lv_room hst) dg ⟨by omega, by omega⟩
theorem wp_callIN (G : FxOk g F cc own nL d) (dg : decode cc pc = .ok (.invokespecial idx, 3)) (kv : KIN own idx y code maxL n host) (hC : Ct g (ws_ y code maxL none) y d' mc ms (.ref b :: As) Bc P PX) (hsel : List.Perm Bs.flatten (Bc ++ Br).flatten) (hn : As.length = n) (hstk : stk = As.reverse ++ .ref b :: st) (hd : d' + 1 ≤ d) (hm : maxL ≤ 45) (hst : (st.map fun v => v.category).sum ≤ 8) (hK : mc + K' ≤ K) (hN : ms + N' ≤ N)
    (kx : ∀ (E : String) (B' : List va_W), PX E B' → Wx g F (B' ++ Br) K' N' pc L st E) (kk : ∀ (v : Option Value) (B' : List va_W), P v B' → Wp g F (B' ++ Br) K' N' (pc + 3) L (v.toList ++ st)) : Wp g F Bs K N pc L stk := by
  obtain ⟨k1, k2, k3, k4, k5, k6⟩ := kv
  refine wp_core (aa := (Value.ref b :: As).toArray) G hsel hK hN (fun H locs cells slots ls hP hN9 hS hlv h1 h2 => ?_) kx kk
  have hrc := G.rc
  have hrs := G.rs
  exact vx_runIN (As := As) (rest := st) (ct_fix G) (hC H.size) ⟨va_cnB n G.hts (lw_meth k1) rfl rfl rfl (nw_M G k3) (G.hts _ k2) k6 (ct_room G hd hm), k5, G.hts _ k4⟩ ⟨ct_blind, ct_pre (vs := .ref b :: As) G hsel hP hN9 hS⟩ rfl hn (hlv.1.trans G.hml) hstk (lv_room hst) dg ⟨by omega, by omega⟩
/-- an exception that this method doesn't catch -/
theorem wx_out {E : String} {ret : Option FieldType} {P9 : Option Value → List va_W → Prop} {PX9 : String → List va_W → Prop} (G : FxOk g F cc own nL d) (R : FxRet g F ret P9 PX9) (hno : FxNo F) (hp : PX9 E Bs) : Wx g F Bs K N pc L st E := by
  intro H locs cells slots ls q ce hP hN hS hlv h1 h2 hce hcv hcl
  rw [R.2]
  exact vx_out (fun x hx => (hno x hx).elim) G.hlk hce hcv hcl (fun t ht _ => ⟨⟨Bs, hp, by rw [ht]; exact hP, hN⟩, by rw [ht]; exact hS.1, by rw [ht]; exact hS.2.1⟩) hS.2.2 (by omega) (by omega)
theorem no_x {X : String → List va_W → Prop} : ∀ (E : String) (B' : List va_W), noX E B' → X E B' := fun _ _ h => h.elim
end LAY4
