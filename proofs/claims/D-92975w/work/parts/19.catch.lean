/-! a handler takes what is thrown (its type may be unresolved as yet); calls of methods that throw -/
set_option maxRecDepth 100000
theorem fh_step {e : Env} {u : State} {f : JFrame} {a : Addr} {x : ExceptionTableEntry} {t : List ExceptionTableEntry} {Q : Handler → Pre} {E : CtlPost} {d : Bool} {acts : List Action} {c : ClassId} {vm' : Vm} {cell : Cell} (hx : covers x f.pc = true) (h0 : x.catchType ≠ 0)
    (hg : (Jvm.resolveClass f.method.cls x.catchType).Gives e.toSetting u.vm (.ok c) vm') (hsz : vm'.classes.size ≤ u.vm.classes.size) (hcell : u.heap[a]? = some cell) (hobj : ∀ k, cell.vm ≠ .statics k) (hk : ∃ k, vm'.classes[cell.cls]? = some k) (hc : ∃ k, vm'.classes[c]? = some k) :
    wp (findHandler.go f a (x :: t)) Q E e d acts u ↔ if vm'.assignable cell.cls c = true then Q (.found x.handlerPc) d acts (u.setVm vm') else wp (findHandler.go f a t) Q E e d acts (u.setVm vm') := by
  obtain ⟨ha, ht⟩ := hg.op (op := VmOp.resolveClass f.method.cls x.catchType) rfl
  simp only [covers] at hx
  have hcell' : (u.setVm vm').heap[a]? = some cell := hcell
  cases hfit : vm'.assignable cell.cls c <;>
    simp [findHandler.go, hx, h0, ha, ht, hsz, hcell, hobj, hk, hc, hfit, VmOp.dirties, VmOp.acts]
/-- the search through a table all of whose entries cover the place: some are passed, one takes it -/
theorem fh_list {e : Env} {s : State} {args : Array Value} {own : String} {f : JFrame} {a : Addr} {cell : Cell} (hpl : e.platform.magicAccessors = ({} : Platform).magicAccessors) (hown : s.vm.findClass own = some f.method.cls) (hobj : ∀ k, cell.vm ≠ .statics k) (hks : ∃ k, s.vm.classes[cell.cls]? = some k)
    {x : ExceptionTableEntry} {rest : List ExceptionTableEntry} (hx : covers x f.pc = true) (h0 : x.catchType ≠ 0) {nm : String} {cT : ClassId} (hl : (Cond.classLink own x.catchType nm).before args s = true) (hcT : s.vm.findClass nm = some cT) (hfit : s.vm.assignable cell.cls cT = true) :
    ∀ (pre : List ExceptionTableEntry) (vm0 : Vm), s.WarmedH vm0 → (∀ z ∈ pre, covers z f.pc = true ∧ z.catchType ≠ 0 ∧ ∃ (nm : String) (cT : ClassId), (Cond.classLink own z.catchType nm).before args s = true ∧ s.vm.findClass nm = some cT ∧ s.vm.assignable cell.cls cT = false) →
      ∃ vm1, s.WarmedH vm1 ∧ ∀ u : State, u.vm = vm0 → u.heap[a]? = some cell → ∀ (Q : Handler → Pre) (E : CtlPost) (d : Bool) (acts : List Action), wp (findHandler.go f a (pre ++ x :: rest)) Q E e d acts u ↔ Q (.found x.handlerPc) d acts (u.setVm vm1)
  | [], vm0, hW, _ => by
    obtain ⟨c', hc', hcl⟩ := Cond.classLink_spec hown hl e.platform hpl
    cases hcT.symm.trans hc'
    obtain ⟨dk, _, _, kt, hd, _, _, _, _, hkt, _, hopen⟩ := hcl.here
    have hcl₀ := hW.classLinks hcl
    have hW' : s.WarmedH (vm0.noted f.method.cls x.catchType (.cls cT)) := hW.noted hd hopen (State.rightAt_cls hcl)
    obtain ⟨ks, hks⟩ := hks
    obtain ⟨ks', hks', -⟩ := hW'.alike.2.2 _ _ hks
    obtain ⟨kt', hkt', -⟩ := hW'.alike.2.2 _ _ hkt
    refine ⟨_, hW', fun u hu hcell Q E d acts => ?_⟩
    subst hu
    rw [List.nil_append, fh_step hx h0 (resolveClass_links e.toSetting hcl₀) (Nat.le_of_eq (Vm.size_noted _ _ _ _)) hcell hobj ⟨ks', hks'⟩ ⟨kt', hkt'⟩, if_pos (by rw [hW'.alike.assignable]; exact hfit)]
  | z :: pre, vm0, hW, hp => by
    obtain ⟨hz, hz0, nm2, cT2, hl2, hcT2, hno⟩ := hp z List.mem_cons_self
    obtain ⟨c', hc', hcl⟩ := Cond.classLink_spec hown hl2 e.platform hpl
    cases hcT2.symm.trans hc'
    obtain ⟨dk, _, _, kt, hd, _, _, _, _, hkt, _, hopen⟩ := hcl.here
    have hcl₀ := hW.classLinks hcl
    have hW' : s.WarmedH (vm0.noted f.method.cls z.catchType (.cls cT2)) := hW.noted hd hopen (State.rightAt_cls hcl)
    obtain ⟨ks, hks1⟩ := hks
    obtain ⟨ks', hks', -⟩ := hW'.alike.2.2 _ _ hks1
    obtain ⟨kt', hkt', -⟩ := hW'.alike.2.2 _ _ hkt
    obtain ⟨vm1, hW1, hf⟩ := fh_list hpl hown hobj ⟨ks, hks1⟩ hx h0 hl hcT hfit pre _ hW' (fun q hq => hp q (List.mem_cons_of_mem _ hq))
    refine ⟨vm1, hW1, fun u hu hcell Q E d acts => ?_⟩
    subst hu
    rw [List.cons_append, fh_step hz hz0 (resolveClass_links e.toSetting hcl₀) (Nat.le_of_eq (Vm.size_noted _ _ _ _)) hcell hobj ⟨ks', hks'⟩ ⟨kt', hkt'⟩, if_neg (by rw [hW'.alike.assignable, hno]; decide)]
    exact hf (u.setVm _) rfl hcell Q E d acts
theorem st_catchTo {e : Env} {u u' : State} {a : Addr} {f : JFrame} {r : List Frame} {pc : Nat} (hfind : ∀ (Q : Handler → Pre) (E : CtlPost) (d : Bool) (acts : List Action), wp (findHandler f a) Q E e d acts u ↔ Q (.found pc) d acts u') :
    (stepThrowing e u a (.java f :: r)).Is (u'.setFrames (.java { f with pc := pc, stack := [.ref a] } :: r)) [] := by
  simp only [stepThrowing, searchFrame, vmDo]
  generalize hr : Sem.go _ e false [] u = res
  obtain ⟨as, rfl, ha⟩ := Sem.eq_ok_of hr (a := Handler.found pc) (s' := u') (acts' := []) (by simp [hfind _ _ _ _])
  exact ⟨rfl, ha⟩
theorem caughtTo {tb : Tables} {e : Env} {s target : State} {g : JFrame} {c : Code} {below : List Frame} {a : Addr} {vm1 : Vm} (h : At s g.method c below) {pc : Nat} (hfind : ∀ (Q : Handler → Pre) (E : CtlPost) (d : Bool) (acts : List Action), wp (findHandler g a) Q E e d acts ((s.setTop g).pushFrame (.throwing a)) ↔ Q (.found pc) d acts (((s.setTop g).pushFrame (.throwing a)).setVm vm1))
    (hrest : Steps tb e below ((s.setVm vm1).setTop { g with pc := pc, stack := [.ref a] }) target) : Steps tb e below ((s.setTop g).pushFrame (.throwing a)) target := by
  obtain ⟨hgo, hw⟩ := h.throwing a
  refine Steps.head hgo hw ?_
  rw [stepThread_throwing (frames_entered h.top _), (st_catchTo (u := (s.setTop g).pushFrame (.throwing a)) hfind).1]
  obtain ⟨g₀, hg⟩ := Option.isSome_iff_exists.mp h.top
  obtain ⟨r, hr⟩ := State.topJava?_eq_some.mp hg
  have hr' : (s.setVm vm1).frames = .java g₀ :: r := hr
  rw [State.setTop_of_frames _ hr'] at hrest
  rw [State.pushFrame, State.setTop_of_frames _ hr, State.setFrames_setFrames, hr, State.setFrames_setVm, State.setFrames_setFrames]
  exact hrest
section ETS
variable {l : Launch} {G : GW} {y : MethodName} {cc : ByteArray} {nL : Nat} {ret : Option FieldType} {fr mc ms : Nat} {Q : Option Value → AH → Nat → Prop} {k sl : Nat} {h : AH} {n pc t : Nat} {L : List (Option Value)} {st st0 : List Value}
theorem asg_self (vm : Vm) (c : ClassId) : vm.assignable c c = true := by
  show vm.assignableAux (255 + 1) c c = true
  rw [Vm.assignableAux, beq_self_eq_true, Bool.true_or]
/-- the one handler of the method takes an object of its own type -/
theorem et_catch {a ci N i sp ep hp : Nat} {C : String} {Tt : u_T} {fs : List Value} (hcl : vwCl[ci]? = some (C, Tt, N)) (hh : h a = some (OB ci fs)) (hd : hdl y = [(sp, ep, hp, i)]) (h1 : sp ≤ pc) (h2 : pc < ep) (h0 : i ≠ 0) (hw : Cond.classLink y.cls i C ∈ lw_all)
    (kk : EW l G y cc nL ret fr mc ms Q k sl h n hp L [.ref a]) : ET l G y cc nL ret fr mc ms Q k sl h n pc L a := by
  intro p e s m args below meth c C1 H locs ls st hR hS hl T hT X
  obtain ⟨cell, q1, q2, q3⟩ := recv C1 hR hcl hh
  have hx := C1.2.2.2.2.2.2.2
  rw [hd] at hx
  unfold hxT at hx
  obtain ⟨x, tl, e1, e2, e3⟩ := List.map_eq_cons_iff.mp hx
  have e3 := List.map_eq_nil_iff.mp e3
  subst e3
  have hpl : e.platform.magicAccessors = ({} : Platform).magicAccessors := by rw [X.admits.platform]
  have x1 : x.startPc = sp := congrArg (fun q => q.1) e2
  have x2 : x.endPc = ep := congrArg (fun q => q.2.1) e2
  have x3 : x.handlerPc = hp := congrArg (fun q => q.2.2.1) e2
  have x4 : x.catchType = i := congrArg (fun q => q.2.2.2) e2
  obtain ⟨vm1, hW1, hf⟩ := fh_list (e := e) (s := s) (args := args) (own := y.cls) (f := F0 m pc ls st) (a := rho G a) (cell := cell) hpl C1.1.2.2.2.1 (VmData.noStatics_of q2) (Vm.classAt_of_findClass q3) (x := x) (rest := [])
    (by unfold covers; rw [x1, x2]; simp only [Bool.and_eq_true, decide_eq_true_eq]; exact ⟨h1, h2⟩) (by rw [x4]; exact h0) (nm := C) (cT := cell.cls) (by rw [x4]; exact C1.1.2.2.2.2 _ hw) q3 (asg_self _ _) [] T.vm X.warmed (fun z hz => by cases hz)
  obtain ⟨t, a1, b1⟩ := kk p e s m args below meth c C1 H locs ls hR hS hl (T.setVm vm1) hT (X.noted hW1)
  refine ⟨t, caughtTo (vm1 := vm1) (pc := hp) X.here (fun Q E d acts => ?_) a1, b1⟩
  rw [W.findHandler_eq (meth := meth) (code := c) (by rw [Stand.throwing_vm]; exact X.method') X.code, e1, ← x3]
  exact hf _ (Stand.throwing_vm _ _ _) (by rw [Stand.throwing_heap, hT]; exact q1) Q E d acts
/-- behind a call by a free contract: the invocation stands again, whatever has come of it -/
theorem runFree {p : Program} {e : Env} {R : Room} {s : State} {m : MethodId} {args : Array Value} {below : List Frame} {meth : Method} {c : Code} {U : State} {locs : List Loc} {cells slots : Nat} {y' : MethodName} {S : Spec} {P : Array Value → State → Prop} {Qx : Array Value → State → Outcome → State → Prop} {bytes : ByteArray} {maxL : Nat} {ret' : Option FieldType} {mc' ms' : Nat}
    (hM : MetFree l y' S P (fun _ _ _ _ _ => True) Qx) (hframes : S.room.frames + 1 ≤ R.frames) (hlocals : 8 + (maxL + 11) + S.room.locals ≤ R.locals)
    (X : Stand p l e R s m args below meth c U locs cells slots) {g : JFrame} {ig : Instr} {len : Nat} {mk : MethodId} {a : Array Value} (hg : g.method = m) (hsize : g.locals.size = c.maxLocals) (hdg : decode c.code g.pc = .ok (ig, len)) (hW : 2 * g.monitorRoom + (g.stack.map fun v => v.category).sum ≤ 8) (hn : U.methodNamed? y' = some mk)
    (h1 : S.pre.before a U = true) (h2 : (Cond.code y' bytes maxL ret').before a U = true) (h3 : (Cond.initialized y'.cls).before a U = true) (h4 : cells + S.room.cells ≤ R.cells) (h5 : slots + S.room.slots ≤ R.slots) (hP : P a (U.calling g mk a))
    (hQ : ∀ a first o t, Qx a first o t → ∃ L : List Loc, first.WarmedH t.vm ∧ first.sameButNew ({ t with vm := first.vm } : State) L mc' ms' ∧ ∀ q ∈ L, gW G q.base) :
    ∃ (o : Outcome) (T' : State) (t : State) (L : List Loc), Qx a (U.calling g mk a) o t ∧ T'.heap = t.heap ∧ (∀ q ∈ L, gW G q.base) ∧ Stand p l e R s m args below meth c T' (locs ++ L) (cells + mc') (slots + ms') ∧
      match o with
      | .returned v => Steps p.tables e below (doInvoke e (U.setTop g) [] mk a).1 (T'.setTop { g with pc := g.pc + len, stack := v.toList ++ g.stack })
      | .threw x => Steps p.tables e below (doInvoke e (U.setTop g) [] mk a).1 ((T'.setTop g).pushFrame (.throwing x)) := by
  obtain ⟨methY, cY, hmY, hcY, -, hlY, -⟩ := Cond.code_spec hn h2
  obtain ⟨kY, hkY, -⟩ := className_of_methodNamed hn
  have hinitY : kY.init = .initialized := Cond.initialized_spec (findClass_of_methodNamed hn) hkY h3
  have h : At U g.method c below := by rw [hg]; exact X.here
  have happ : S.appliesLoose y' e.platform (U.calling g mk a) = true :=
    Spec.appliesLoose_calling (g := g) h hdg hn hkY hinitY (X.room_calling (g := g) (R' := S.room) hsize hmY hcY hframes (by rw [hlY]; omega) h4 h5) h1
  obtain ⟨mid, hmid⟩ := h.above
  have hfr : (U.setTop g).frames = (.java g :: mid) ++ below := by rw [State.frames_setTop' g h.top, hmid]; rfl
  obtain ⟨o, s₂, hsteps, -, hend, hq⟩ := Steps.callFree hM p X.admits X.cas X.clock (acts := []) hfr happ hP trivial
  have hq' : Qx a (U.calling g mk a) o s₂ := hq
  rw [State.frames_setTop' g h.top] at hend
  obtain ⟨L, hW₂, ⟨e2, q2, q3, q4, q5, q6⟩, hL⟩ := hQ _ _ _ _ hq'
  have e3 : s₂ = ({ (U.calling g mk a).setFrames s₂.frames with heap := s₂.heap, slotsUsed := s₂.slotsUsed } : State).setVm s₂.vm := by
    have : s₂ = ({ s₂ with vm := (U.calling g mk a).vm } : State).setVm s₂.vm := rfl
    rw [e2] at this
    exact this
  have hW' : U.WarmedH s₂.vm := hW₂
  obtain ⟨g₀, hg0⟩ := Option.isSome_iff_exists.mp h.top
  obtain ⟨r, hr⟩ := State.topJava?_eq_some.mp hg0
  have hsame : U.sameButNew ({ U with heap := s₂.heap, slotsUsed := s₂.slotsUsed } : State) L mc' ms' := by
    refine ⟨?_, q2, q3, q4, q5, q6⟩
    obtain ⟨t, ht, -⟩ := State.frames_cons hr
    show ({ U with heap := s₂.heap, slotsUsed := s₂.slotsUsed } : State) = { U.setFrames U.frames with heap := s₂.heap, slotsUsed := s₂.slotsUsed }
    rw [State.setFrames_self ht]
  have hr' : (({ U with heap := s₂.heap, slotsUsed := s₂.slotsUsed } : State).setVm s₂.vm).frames = .java g₀ :: r := hr
  subst hg
  refine ⟨o, (({ U with heap := s₂.heap, slotsUsed := s₂.slotsUsed } : State).setVm s₂.vm), s₂, L, hq', rfl, hL,
    ⟨X.admits, X.cas, X.clock, X.frames, X.room, X.hears, X.method, X.code, (X.here.setHeapUsed s₂.heap s₂.slotsUsed).setVm hW'.alike, X.tail, State.WarmedH.trans X.warmed hW', X.limits, X.bytes, X.same.trans (hsame.setVm s.vm)⟩, ?_⟩
  cases o with
  | returned v =>
    obtain ⟨c₂, i₂, len₂, hc₂, hd₂, hf₂⟩ := hend
    have hcc : c₂ = c := by
      have h1 : s₂.code? g.method = U.code? g.method := by
        rw [State.code?_eq, State.code?_eq, hW'.alike.method?]
      exact Option.some.inj (hc₂.symm.trans (h1.trans h.code))
    subst hcc
    have hlen : len₂ = len := by rw [hdg] at hd₂; cases hd₂; rfl
    subst hlen
    have hs₂ : s₂ = (({ U with heap := s₂.heap, slotsUsed := s₂.slotsUsed } : State).setVm s₂.vm).setTop { g with pc := g.pc + len₂, stack := v.toList ++ g.stack } := by
      refine e3.trans ?_
      rw [hf₂, State.calling_eq h.top, State.setFrames_setFrames, State.setTop_of_frames _ hr', hr]
      rfl
    show Steps p.tables e below _ ((({ U with heap := s₂.heap, slotsUsed := s₂.slotsUsed } : State).setVm s₂.vm).setTop _)
    rw [← hs₂]
    exact hsteps
  | threw x =>
    have hf₂ : s₂.frames = .throwing x :: .java g :: U.frames.tail := hend
    have hs₂ : s₂ = ((({ U with heap := s₂.heap, slotsUsed := s₂.slotsUsed } : State).setVm s₂.vm).setTop g).pushFrame (.throwing x) := by
      refine e3.trans ?_
      rw [hf₂, State.calling_eq h.top, State.setFrames_setFrames, State.pushFrame, State.frames_setTop _ hr', State.setTop_of_frames _ hr', State.setFrames_setFrames, hr]
      rfl
    show Steps p.tables e below _ (((({ U with heap := s₂.heap, slotsUsed := s₂.slotsUsed } : State).setVm s₂.vm).setTop g).pushFrame (.throwing x))
    rw [← hs₂]
    exact hsteps
/-- a call of a method that may throw -/
theorem ew_callVT {y' : MethodName} {cc' : ByteArray} {nL' fr' mc' ms' i a : Nat} {ret' : Option FieldType} {As : List Value} {Q' : Option Value → AH → Nat → Prop} {ci N : Nat} {C : String} {T : u_T} {fs : List Value} (hM : AT l G y' cc' nL' ret' fr' mc' ms' (.ref a :: As) h n Q') (hcl : vwCl[ci]? = some (C, T, N)) (hh : h a = some (OB ci fs)) (hw : GoodIn lw_all (wsV y.cls i C y' (ws_ y' cc' nL' ret'))) (hC : y'.cls = C) (hna : nArg y' As.length) (hd : decode cc pc = .ok (.invokevirtual i, 3)) (hs0 : st0 = As.reverse ++ .ref a :: st) (hfr : fr' + 1 ≤ fr) (hnL : nL' ≤ 21) (hk : k + mc' ≤ mc) (hs : sl + ms' ≤ ms) (hst : (st.map fun v => v.category).sum ≤ 8) (hp : pc + 3 = t)
    (kk : ∀ (r : Option Value) (h1 : AH) (n1 : Nat), Q' r h1 n1 → nrt r = true → EW l G y cc nL ret fr mc ms Q (k + mc') (sl + ms') h1 n1 t L (r.toList ++ st))
    (kt : ∀ (x : Nat) (h1 : AH) (n1 : Nat), Q' (some (.retAddr (x + 1))) h1 n1 → ET l G y cc nL ret fr mc ms Q (k + mc') (sl + ms') h1 n1 pc L x) : EW l G y cc nL ret fr mc ms Q k sl h n pc L st0 := by
  subst hp hs0
  intro p e s m args below meth c C1 H locs ls hR hS hl T0 hT X
  have hwd : ∀ w ∈ wsV y.cls i C y' (ws_ y' cc' nL' ret'), ∀ (a' : Array Value) (U : State), s.WarmedH U.vm → w.before a' U = true := pay_in C1.1.2.2.2.2 hw
  have hnow : ∀ w ∈ wsV y.cls i C y' (ws_ y' cc' nL' ret'), w.before args s = true := fun w h => hwd w h args s (State.WarmedH.refl s)
  have hlink : (Cond.methodLink y.cls i y').before args s = true := hnow _ (by simp [wsV])
  have hinst : (Cond.instanceMethod y').before args s = true := hnow _ (by simp [wsV])
  have hsel : (Cond.selects C y' y').before args s = true := hnow _ (by simp [wsV])
  have hcode : (Cond.code y' cc' nL' ret').before args s = true := hnow _ (by simp [wsV])
  obtain ⟨cellB, hcB, hoB, hclB⟩ := recv C1 hR hcl hh
  obtain ⟨mk, methM, hnamed, hmethM, hstM, habM⟩ := Cond.instanceMethod_spec hinst
  obtain ⟨methM', cM, hmethM', -, -, -, -, -, -, hsigM⟩ := Cond.code_spec hnamed hcode
  cases hmethM.symm.trans hmethM'
  obtain ⟨c2, r2, m2, q1, q2, q3, q4, kP, hkP, hkPi⟩ := Cond.selects_spec hsel
  cases hclB.symm.trans q1
  cases (State.methodFound?_of_named hnamed ⟨hna.1, hna.2.1⟩).symm.trans q2
  cases hnamed.symm.trans q3
  have hselP : selectMethod e.platform s.vm cellB.cls mk = .method mk := by rw [Launch.admits_selectMethod X.admits]; exact q4
  have hlen : (shs G As).length = methM.sig.parameters.length := by
    rw [shs_len]
    have h2 := hna.2.2
    rw [hsigM] at h2
    exact (Option.some.inj h2).symm
  obtain ⟨vm₁, X₁, hstep₁⟩ := X.invokevirtual C1.1.1 C1.1.2.2.2.1 hlink hnamed hmethM hstM hkP hkPi ⟨hna.1, hna.2.1⟩ (a := rho G a) (cell := cellB) (by rw [hT]; exact hcB)
    (fun z h => by rw [h] at hoB; cases hoB) hselP hmethM habM hkP hkPi (g := F0 m pc ls (shs G (As.reverse ++ .ref a :: st))) rfl (argsL := shs G As) (rest := shs G st) hlen (by
      show shs G (As.reverse ++ .ref a :: st) = _
      rw [shs_app, shs_rev]; rfl) (by rw [C1.1.2.1]; exact hd)
  obtain ⟨o, T', t, L2, hq, hheap, hL2, X', hst2⟩ := runFree (G := G) (Qx := _) (mc' := mc') (ms' := ms') (bytes := cc') (maxL := nL') (ret' := ret') hM (R := rmW fr mc ms) (rmW_ok hfr hnL).1 (rmW_ok hfr hnL).2 X₁ (g := F0 m pc ls (shs G st)) (ig := .invokevirtual i) (len := 3) (mk := mk) (a := (Value.ref (rho G a) :: shs G As).toArray) rfl
    (by rw [C1.1.2.2.1]; exact hl.1) (by rw [C1.1.2.1]; exact hd) (lv_room (by rw [shs_cat]; exact hst)) (X₁.named hnamed)
    (atoms_intro fun w hw' => hwd w (by unfold wsV; exact List.mem_append_right _ hw') _ _ X₁.warmed) (hwd _ (by simp [wsV]) _ _ X₁.warmed) (by rw [hC]; exact hwd (.initialized C) (by simp [wsV]) _ _ X₁.warmed) hk hs
    (PW_blind _ _ _ _ (PW_pre (as := .ref a :: As) C1 hR hS _ hT X₁.warmed)) (fun a first o t hq => by
      rcases hq with ⟨-, L, hF, hL⟩ | ⟨x, h', n', -, -, -, -, L, hW, hsm, hL⟩
      · exact ⟨L, hF.2.1, hF.2.2, hL⟩
      · exact ⟨L, hW, hsm, hL⟩)
  rcases hq with ⟨⟨⟨r, h1, n1, hv, ⟨hq, hnr⟩, hR1⟩, hz, hkq⟩, -⟩ | ⟨x, h1, n1, hv, hq, hR1, ⟨hz, hkq⟩, -⟩
  · subst hv
    dsimp only at hst2
    have hz' : T0.heap.size ≤ t.heap.size := hz
    have hkq' : ∀ q : Nat, q < T0.heap.size → ¬ gW G q → t.heap[q]? = T0.heap[q]? := hkq
    rw [hT] at hz' hkq'
    obtain ⟨t2, a1, b1⟩ := kk r h1 n1 hq hnr p e s m args below meth c C1 T'.heap (locs ++ L2) ls (by rw [hheap]; exact hR1)
      ⟨Nat.le_trans hS.1 (by rw [hheap]; exact hz'), fun q g1 g2 => by rw [hheap, hkq' q (Nat.lt_of_lt_of_le g1 hS.1) g2]; exact hS.2.1 q g1 g2, fun q hq => by
        rcases List.mem_append.mp hq with h | h
        · exact hS.2.2 q h
        · exact hL2 q h⟩ hl T' rfl X'
    refine ⟨t2, hstep₁ _ fun acts => ?_, b1⟩
    rw [doInvoke_state]
    rw [shs_ret] at hst2
    exact hst2.trans a1
  · subst hv
    dsimp only at hst2
    have hz' : T0.heap.size ≤ t.heap.size := hz
    have hkq' : ∀ q : Nat, q < T0.heap.size → ¬ gW G q → t.heap[q]? = T0.heap[q]? := hkq
    rw [hT] at hz' hkq'
    obtain ⟨t2, a1, b1⟩ := kt x h1 n1 hq p e s m args below meth c C1 T'.heap (locs ++ L2) ls (shs G st) (by rw [hheap]; exact hR1)
      ⟨Nat.le_trans hS.1 (by rw [hheap]; exact hz'), fun q g1 g2 => by rw [hheap, hkq' q (Nat.lt_of_lt_of_le g1 hS.1) g2]; exact hS.2.1 q g1 g2, fun q hq => by
        rcases List.mem_append.mp hq with h | h
        · exact hS.2.2 q h
        · exact hL2 q h⟩ hl T' rfl X'
    refine ⟨t2, hstep₁ _ fun acts => ?_, b1⟩
    rw [doInvoke_state]
    exact hst2.trans a1
end ETS
