/-! a note of the machine's own throw lies over the frame; a handler of the method takes it -/
set_option maxRecDepth 100000
abbrev noTr (l : Launch) : Prop := ∀ e : Env, l.admits e → e.platform.stackTraces = false
def EN (l : Launch) (G : GW) (y : MethodName) (cc : ByteArray) (nL : Nat) (ret : Option FieldType) (fr mc ms : Nat) (Q : Option Value → AH → Nat → Prop) (k sl : Nat) (h : AH) (n : Nat) (pc : Nat) (L : List (Option Value)) (cls : String) (msg : Option String) : Prop :=
  ∀ (p : Program) (e : Env) (s : State) (m : MethodId) (args : Array Value) (below : List Frame) (meth : Method) (c : Code), EC G y cc nL ret p s m args meth c → ∀ (H : Heap) (locs : List Loc) (ls : Array Slot) (st : List Value), HR G h n H → va_S (gW G) s.heap H locs → lvh G ls nL L → (st.map fun v => v.category).sum ≤ 8 →
    ∀ T : State, T.heap = H → Stand p l e (rmW fr mc ms) s m args below meth c T locs k sl → ∃ t, Steps p.tables e below ((T.setTop (F0 m pc ls st)).pushFrame (.throwNew cls msg none)) t ∧ MQE y below G Q args s mc ms t
theorem HR.grow {G : GW} {h : AH} {n d : Nat} {H H1 : Heap} (hR : HR G h n H) (hz : H1.size = H.size + d) (hq : ∀ q : Nat, q < H.size → H1[q]? = H[q]?) : HR G h (n + d) H1 :=
  ⟨by rw [hz, hR.1]; omega, by have := hR.2.1; omega, hR.2.2.1, fun k c hk => (hR.2.2.2 k c hk).kept (hq _ (hR.2.2.2 k c hk).lt)⟩
section ENS
variable {l : Launch} {G : GW} {y : MethodName} {cc : ByteArray} {nL : Nat} {ret : Option FieldType} {fr mc ms : Nat} {Q : Option Value → AH → Nat → Prop} {k sl : Nat} {h : AH} {n pc t : Nat} {L : List (Option Value)} {st st0 : List Value}
/-- which handler takes cls -/
def HT (y : MethodName) (pc : Nat) (cls : String) (hp : Nat) : Prop :=
  ∃ (pre rest : List (Nat × Nat × Nat × Nat)) (sp ep i : Nat) (nm : String), hdl y = pre ++ (sp, ep, hp, i) :: rest ∧ sp ≤ pc ∧ pc < ep ∧ i ≠ 0 ∧ Cond.classLink y.cls i nm ∈ lw_all ∧ (cls = nm ∨ Cond.castable cls nm ∈ lw_tbl) ∧
    ∀ z ∈ pre, z.1 ≤ pc ∧ pc < z.2.1 ∧ z.2.2.2 ≠ 0 ∧ ∃ nm2 : String, Cond.classLink y.cls z.2.2.2 nm2 ∈ lw_all ∧ (cls, nm2) ∈ ncl
theorem en_caught {p : Program} {e : Env} {s : State} {m : MethodId} {args : Array Value} {below : List Frame} {meth : Method} {c : Code} (C1 : EC G y cc nL ret p s m args meth c) {H : Heap} {locs : List Loc} {ls : Array Slot} {st : List Value} (hR : HR G h n H) (hS : va_S (gW G) s.heap H locs) (hl : lvh G ls nL L)
    {T : State} (hT : T.heap = H) {U : State} {Lx : List Loc} {cell : Cell} {d dn : Nat} {cls : String} (hsz : U.heap.size = T.heap.size + d) (hold : ∀ q : Nat, q < T.heap.size → U.heap[q]? = T.heap[q]?) (hcell : U.heap[T.heap.size + dn]? = some cell) (hvm : cell.vm = .none) (hcl : s.vm.findClass cls = some cell.cls) (hL : ∀ q ∈ Lx, q.base = T.heap.size + dn)
    {k' sl' : Nat} (XU : Stand p l e (rmW fr mc ms) s m args below meth c U (locs ++ Lx) k' sl') {hp : Nat} (ht : HT y pc cls hp) (kk : EW l G y cc nL ret fr mc ms Q k' sl' h (n + d) hp L [.ref (n + dn)]) :
    ∃ t, Steps p.tables e below ((U.setTop (F0 m pc ls st)).pushFrame (.throwing (T.heap.size + dn))) t ∧ MQE y below G Q args s mc ms t := by
  obtain ⟨pre, rest, sp, ep, i, nm, hd, h1, h2, h0, hw, hfit, hpre⟩ := ht
  have hn1 := hR.2.1
  have ea : rho G (n + dn) = T.heap.size + dn := by rw [rho_pos G (by omega), hT, hR.1]; omega
  have hx := C1.2.2.2.2.2.2.2
  rw [hd] at hx
  unfold hxT at hx
  obtain ⟨l1, l2, e1, e2, e3⟩ := List.map_eq_append_iff.mp hx
  obtain ⟨x, tl, e4, e5, e6⟩ := List.map_eq_cons_iff.mp e3
  have hpl : e.platform.magicAccessors = ({} : Platform).magicAccessors := by rw [XU.admits.platform]
  have x1 : x.startPc = sp := congrArg (fun q => q.1) e5
  have x2 : x.endPc = ep := congrArg (fun q => q.2.1) e5
  have x3 : x.handlerPc = hp := congrArg (fun q => q.2.2.1) e5
  have x4 : x.catchType = i := congrArg (fun q => q.2.2.2) e5
  obtain ⟨cT, hcT, -⟩ := Cond.classLink_spec (args := args) C1.1.2.2.2.1 (C1.1.2.2.2.2 _ hw) e.platform hpl
  have hfitT : s.vm.assignable cell.cls cT = true := by
    rcases hfit with rfl | hc
    · cases hcl.symm.trans hcT
      exact asg_self _ _
    · obtain ⟨c2, t2, f1, f2, f3⟩ := Cond.castable_spec (hb_of C1 _ hc rfl)
      cases hcl.symm.trans f1
      cases hcT.symm.trans f2
      exact f3
  obtain ⟨vm1, hW1, hf⟩ := fh_list (e := e) (s := s) (args := args) (own := y.cls) (f := F0 m pc ls st) (a := rho G (n + dn)) (cell := cell) hpl C1.1.2.2.2.1 (fun k hk => by rw [hvm] at hk; cases hk) (Vm.classAt_of_findClass hcl) (x := x) (rest := tl)
    (by unfold covers; rw [x1, x2]; simp only [Bool.and_eq_true, decide_eq_true_eq]; exact ⟨h1, h2⟩) (by rw [x4]; exact h0) (nm := nm) (cT := cT) (by rw [x4]; exact C1.1.2.2.2.2 _ hw) hcT hfitT l1 U.vm XU.warmed (fun z hz => by
      obtain ⟨p1, p2, p3, nm2, p4, p5⟩ := hpre (z.startPc, z.endPc, z.handlerPc, z.catchType) (by rw [← e2]; exact List.mem_map_of_mem hz)
      obtain ⟨c3, t3, g1, g2, g3⟩ := C1.2.2.2.2.2.1.2.2.2.2.2.2.2.2.2.2.1 _ p5
      cases hcl.symm.trans g1
      exact ⟨by unfold covers; simp only [Bool.and_eq_true, decide_eq_true_eq]; exact ⟨p1, p2⟩, p3, nm2, t3, C1.1.2.2.2.2 _ p4, g2, g3⟩)
  have hRU : HR G h (n + d) U.heap := hR.grow (by rw [hsz, hT]) (fun q hq => by rw [← hT] at hq ⊢; exact hold q hq)
  have hSU : va_S (gW G) s.heap U.heap (locs ++ Lx) := by
    have hb := hR.1
    refine ⟨Nat.le_trans hS.1 (by rw [hsz, hT]; omega), fun q g1 g2 => ?_, fun q hq => ?_⟩
    · rw [hold q (by rw [hT]; exact Nat.lt_of_lt_of_le g1 hS.1), hT]
      exact hS.2.1 q g1 g2
    · rcases List.mem_append.mp hq with g | g
      · exact hS.2.2 q g
      · show gN G < q.base
        rw [hL q g, hT, hb]
        omega
  obtain ⟨t, a1, b1⟩ := kk p e s m args below meth c C1 U.heap (locs ++ Lx) ls hRU hSU hl (U.setVm vm1) rfl (XU.noted hW1)
  rw [← ea]
  refine ⟨t, caughtTo (vm1 := vm1) (pc := hp) XU.here (fun Q E d acts => ?_) a1, b1⟩
  rw [W.findHandler_eq (meth := meth) (code := c) (by rw [Stand.throwing_vm]; exact XU.method') XU.code, e1, e4, ← x3]
  exact hf _ (Stand.throwing_vm _ _ _) (by rw [Stand.throwing_heap, ea]; exact hcell) Q E d acts
theorem en_npe (hfl : noTr l) (hfr : 257 ≤ fr) (hk : k + 1 ≤ mc) (hs : sl + 8 ≤ ms) {hp : Nat} (ht : HT y pc "java/lang/NullPointerException" hp) (kk : EW l G y cc nL ret fr mc ms Q (k + 1) (sl + 8) h (n + 1) hp L [.ref n]) : EN l G y cc nL ret fr mc ms Q k sl h n pc L "java/lang/NullPointerException" none := by
  intro p e s m args below meth c C1 H locs ls st hR hS hl hst T hT X
  obtain ⟨U, Lx, cell, u1, u2, u3, u4, u5, u6, u7, u8⟩ := vmNpe X C1.1.1 (hfl e X.admits) (at_npe C1) (C1.2.2.2.2.2.1.2.2.2.2.2.2.2.1) (fun x hx => hS.2.2 x hx) (g := F0 m pc ls st) rfl (by rw [C1.1.2.2.1]; exact hl.1) (by show 7 < fr; omega) (by
    have := lv_room (m := m) (pc := pc) (ls := ls) (rest := st) hst
    show 2 * (F0 m pc ls st).monitorRoom + (st.map fun v => v.category).sum + 10240 ≤ 40 * fr
    omega) hk hs
  obtain ⟨t, a1, b1⟩ := en_caught (pc := pc) (st := st) (dn := 0) C1 hR hS hl hT u1 u2 u3 u4 u5 u6 u7 ht kk
  exact ⟨t, u8 t a1, b1⟩
theorem en_msg (hfl : noTr l) (hfr : 257 ≤ fr) (hk : k + 3 ≤ mc) (hs : sl + 4010 ≤ ms) {hp : Nat} {cls text : String} {names : List String} (hcls : Bundle.fit cls = true) (hnames : ∀ n ∈ names, Bundle.fit n = true) (hsoe : (cls == "java/lang/StackOverflowError") = false) (hoom : (cls == "java/lang/OutOfMemoryError") = false) (hlen4 : names.length ≤ 4)
    (hat : ∀ {p : Program} {s : State} {m : MethodId} {args : Array Value} {meth : Method} {c : Code}, EC G y cc nL ret p s m args meth c → ∀ a ∈ Bundle.messageArmAtoms cls names, a.before args s = true) (htext : (text == notModelled) = false) (hlen : (stringBytes (stringToUtf16 text)).size ≤ 4000)
    (ht : HT y pc cls hp) (kk : EW l G y cc nL ret fr mc ms Q (k + 3) (sl + 4010) h (n + 3) hp L [.ref (n + 2)]) : EN l G y cc nL ret fr mc ms Q k sl h n pc L cls (some text) := by
  intro p e s m args below meth c C1 H locs ls st hR hS hl hst T hT X
  obtain ⟨U, Lx, cell, u1, u2, u3, u4, u5, u6, u7, u8⟩ := vmMsg X C1.1.1 (hfl e X.admits) hcls hnames hsoe hoom (hat C1) (C1.2.2.2.2.2.1.2.2.2.2.2.2.2.1) (fun x hx => hS.2.2 x hx) htext hlen (g := F0 m pc ls st) rfl (by rw [C1.1.2.2.1]; exact hl.1) (by show _ < fr; omega) (by
    have := lv_room (m := m) (pc := pc) (ls := ls) (rest := st) hst
    show 2 * (F0 m pc ls st).monitorRoom + (st.map fun v => v.category).sum + 10240 ≤ 40 * fr
    omega) (by omega) hk hs
  obtain ⟨t, a1, b1⟩ := en_caught (pc := pc) (st := st) (dn := 2) C1 hR hS hl hT u1 u2 u3 u4 u5 u6 u7 ht kk
  exact ⟨t, u8 t a1, b1⟩
end ENS
