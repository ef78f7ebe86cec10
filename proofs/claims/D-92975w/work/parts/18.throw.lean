/-! throws: a cell of the run is thrown out of a method, or taken by a handler -/
set_option maxRecDepth 100000
/-- a note 'throwing a' lies over the frame -/
def ET (l : Launch) (G : GW) (y : MethodName) (cc : ByteArray) (nL : Nat) (ret : Option FieldType) (fr mc ms : Nat) (Q : Option Value → AH → Nat → Prop) (k sl : Nat) (h : AH) (n : Nat) (pc : Nat) (L : List (Option Value)) (a : Nat) : Prop :=
  ∀ (p : Program) (e : Env) (s : State) (m : MethodId) (args : Array Value) (below : List Frame) (meth : Method) (c : Code), EC G y cc nL ret p s m args meth c → ∀ (H : Heap) (locs : List Loc) (ls : Array Slot) (st : List Value), HR G h n H → va_S (gW G) s.heap H locs → lvh G ls nL L →
    ∀ T : State, T.heap = H → Stand p l e (rmW fr mc ms) s m args below meth c T locs k sl → ∃ t, Steps p.tables e below ((T.setTop (F0 m pc ls st)).pushFrame (.throwing (rho G a))) t ∧ MQE y below G Q args s mc ms t
/-- the contract of a method that may throw -/
def AT (l : Launch) (G : GW) (y : MethodName) (cc : ByteArray) (nL : Nat) (ret : Option FieldType) (fr mc ms : Nat) (as : List Value) (h : AH) (n : Nat) (Q : Option Value → AH → Nat → Prop) : Prop :=
  MetFree l y (headSpec (ws_ y cc nL ret) (rmW fr mc ms)) (PW G as h n) (fun _ _ _ _ _ => True)
    (fun a s o t => (QW G (fun r h n => Q r h n ∧ nrt r = true) a s o t ∧ ∃ L, FrameEnd s o t L mc ms ∧ ∀ q ∈ L, gW G q.base) ∨ TQ G Q s mc ms o t)
section ETS
variable {l : Launch} {G : GW} {y : MethodName} {cc : ByteArray} {nL : Nat} {ret : Option FieldType} {fr mc ms : Nat} {Q : Option Value → AH → Nat → Prop} {k sl : Nat} {h : AH} {n pc t : Nat} {L : List (Option Value)} {st st0 : List Value}
theorem AT.of {as : List Value} {L : List (Option Value)} (hy : plainName y.cls = true) (hlen : (lg_sl (shs G as)).length ≤ nL) (hL : padL nL (lvA as) = L)
    (kk : EW l G y cc nL ret fr mc ms Q 0 0 h n 0 L []) (hh : hdl y = [] := by decide +kernel) : AT l G y cc nL ret fr mc ms as h n Q := by
  refine MetFree.of_bodyS (code := cc) (maxLocals := nL) (ret := ret) hy ?_ ?_
  · intro args s m h hn
    obtain ⟨meth, c, h1, h2, h3, h4, h5, h6, -, -⟩ := Cond.code_spec hn (atoms_spec (ws := ws_ y cc nL ret) h _ List.mem_cons_self)
    exact ⟨meth, c, h1, h2, h3, h4, h5, h6⟩
  · intro p e s m args below meth c s₁ B hml hv _
    obtain ⟨rfl, hR, hK, hX⟩ := hv
    have hts := atoms_spec (ws := ws_ y cc nL ret) B.pre
    have hnh := B.noHandlers (hts _ List.mem_cons_self)
    have hts : ∀ w ∈ lw_all, w.before _ s = true := fun w h => hts w (List.mem_cons_of_mem _ h)
    have hown : s.vm.findClass y.cls = some m.cls := findClass_of_methodNamed B.named
    have hl := lv_entry (shs G as) (n := nL) hlen
    have hh0 : s₁.heap = s.heap := by rw [B.state]; rfl
    have C1 : EC G y cc nL ret p s m (shs G as).toArray meth c := ⟨⟨B.exec, B.bytes, hml, hown, hts⟩, B.returns, B.notSynchronized, (name_of_methodNamed B.named B.method).1, hK, hX, by rw [hR.1]; have := hR.2.1; omega, by
      rw [hh]
      unfold hxT
      rw [Array.isEmpty_iff.mp hnh]
      rfl⟩
    have hW := kk p e s m _ below meth c C1 s.heap [] _ hR va_S.rf ⟨hl.1, hl.2.1, fun i v hi => by
      rw [← hL] at hi
      have hm := lvA_mem (G := G) as 0 i v (padL_get hi)
      rw [Nat.zero_add] at hm
      exact hl.2.2 _ hm⟩
    obtain ⟨t, a1, hq⟩ := hW s₁ hh0 (Stand.of_body B)
    rw [lg_entry_eq] at *
    rcases hq with ⟨o, b1, b2, b3, b4⟩ | ⟨-, o, b1, b2, b3⟩
    · exact ⟨t, o, a1, b1, b2, Or.inl ⟨b3, b4⟩⟩
    · exact ⟨t, o, a1, b1, b2, Or.inr b3⟩
theorem ew_athrow {a : Nat} (hd : decode cc pc = .ok (.athrow, 1)) (kk : ET l G y cc nL ret fr mc ms Q k sl h n pc L a) : EW l G y cc nL ret fr mc ms Q k sl h n pc L (.ref a :: st) := by
  intro p e s m args below meth c C1 H locs ls hR hS hl T hT X
  obtain ⟨t, h1, h2⟩ := kk p e s m args below meth c C1 H locs ls (shs G st) hR hS hl T hT X
  refine ⟨t, ?_, h2⟩
  have hexec := C1.1.1
  have hdg : decode c.code pc = .ok (.athrow, 1) := by rw [C1.1.2.1]; exact hd
  jvm_step X.here [hexec, hdg, athrow.wp_sem]
  exact ⟨_, _, rfl, h1⟩
theorem et_leave {a : Nat} (ht : thr y = true) (hn : hdl y = []) (hk : k ≤ mc) (hs : sl ≤ ms) (hq : Q (some (.retAddr (a + 1))) h n) : ET l G y cc nL ret fr mc ms Q k sl h n pc L a := by
  intro p e s m args below meth c C1 H locs ls st hR hS hl T hT X
  have hx := C1.2.2.2.2.2.2.2
  rw [hn] at hx
  have hnil : c.exceptionTable.toList = [] := List.map_eq_nil_iff.mp hx
  obtain ⟨w1, w2, w3, w4, w5⟩ := X.leaveThrown (rho G a) (g := F0 m pc ls st) rfl rfl rfl (by rw [hnil]; intro x hx; cases hx) C1.2.2.1
  exact ⟨_, w1, Or.inr ⟨ht, _, w2, w3, a, h, n, rfl, hq, by show HR G h n T.heap; rw [hT]; exact hR, hS.F (by exact hT), locs, w4, w5.mono hk hs, hS.2.2⟩⟩
end ETS
