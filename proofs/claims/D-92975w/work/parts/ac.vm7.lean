/-! the machine's own throw over a native's frame: the object is made -/
set_option maxRecDepth 100000
section VMN
variable {p : Program} {l : Launch} {e : Env} {R : Room} {s : State} {m : MethodId} {args : Array Value} {below : List Frame} {meth : Method} {c : Code} {T' : State} {locs : List Loc} {cells slots : Nat}
theorem vmMayN (X : Stand p l e R s m args below meth c T' locs cells slots) {g : JFrame} (hsize : g.locals.size = c.maxLocals) (note : Frame) (hnote : ∀ f, note ≠ .java f) (hw : note.words = 0) (nf : NFrame) (hnf : (Frame.native nf).words = 0)
    (hK : 2 * g.monitorRoom + (g.stack.map fun v => v.category).sum + 10240 ≤ R.locals) :
    e.platform.stackBeyond ((((T'.setFrames (note :: .native nf :: .java g :: below)).threads[(T'.setFrames (note :: .native nf :: .java g :: below)).cur]?).map (·.stackBytes)).getD 0) (T'.setFrames (note :: .native nf :: .java g :: below)).frames = false ∧
      e.platform.vmThrowRoom ≤ e.platform.stackFree ((((T'.setFrames (note :: .native nf :: .java g :: below)).threads[(T'.setFrames (note :: .native nf :: .java g :: below)).cur]?).map (·.stackBytes)).getD 0) (T'.setFrames (note :: .native nf :: .java g :: below)).frames := by
  obtain ⟨g₀, hfr⟩ := X.frames_eq
  have hcur : T'.cur < T'.threads.size := State.cur_lt_of_frames hfr
  have hb : ((((T'.setFrames (note :: .native nf :: .java g :: below)).threads[(T'.setFrames (note :: .native nf :: .java g :: below)).cur]?).map (·.stackBytes)).getD 0) = T'.me.stackBytes := by
    rw [← State.stackBytes_setFrames T' (note :: .native nf :: .java g :: below)]
    exact State.stackBytes_me (T'.setFrames (note :: .native nf :: .java g :: below))
  have hA := X.stackAbove hsize hK
  rw [X.tail] at hA
  have hlimit : (e.platform.stackLimits T'.me).2 = (e.platform.limitsFor T'.me.stackBytes).2 := rfl
  rw [hb, State.frames_setFrames _ hcur, Launch.admits_vmThrowRoom X.admits]
  unfold Platform.stackBeyond Platform.stackFree
  rw [stackUse_light _ _ hnote hw, stackUse_light _ _ (fun f hf => by cases hf) hnf]
  exact ⟨decide_eq_false (by omega), by omega⟩
theorem ovN (X : Stand p l e R s m args below meth c T' locs cells slots) (g : JFrame) (nf : NFrame) : OvF T' (.native nf :: .java g :: below) below := by
  obtain ⟨g₀, hfr⟩ := X.frames_eq
  exact ⟨X.here.running, X.here.runnable, X.here.alone, State.cur_lt_of_frames hfr, [.native nf, .java g], rfl, by simp⟩
set_option maxHeartbeats 1000000 in
theorem vmNpeN (X : Stand p l e R s m args below meth c T' locs cells slots) (hexec : p.tables.exec = Jvm.exec) (htr : e.platform.stackTraces = false) {n : Nat} (h : ∀ a ∈ Bundle.npeArmAtoms n, a.before args s = true)
    {A : Nat → Prop} {v : Value} (hz : va_Z Bundle.tN "UNASSIGNED_STACK" Bundle.steD v A s s.heap) (hloc : ∀ x ∈ locs, A x.base)
    {nf : NFrame} (hnf : (Frame.native nf).words = 0) {g : JFrame} (hsize : g.locals.size = c.maxLocals) (hRframes : 8 < R.frames) (hRlocals : 2 * g.monitorRoom + (g.stack.map fun v => v.category).sum + 10240 ≤ R.locals) (hRcells : cells + 1 ≤ R.cells) (hRslots : slots + n ≤ R.slots) :
    ∃ (U : State) (L : List Loc) (cell : Cell), U.heap.size = T'.heap.size + 1 ∧ (∀ q : Nat, q < T'.heap.size → U.heap[q]? = T'.heap[q]?) ∧ U.heap[T'.heap.size]? = some cell ∧ cell.vm = .none ∧ s.vm.findClass Bundle.nN = some cell.cls ∧ (∀ q ∈ L, q.base = T'.heap.size) ∧ Stand p l e R s m args below meth c U (locs ++ L) (cells + 1) (slots + n) ∧
      ∀ target, Steps p.tables e below (U.setFrames (.throwing T'.heap.size :: .native nf :: .java g :: below)) target → Steps p.tables e below (T'.setFrames (.throwNew "java/lang/NullPointerException" none none :: .native nf :: .java g :: below)) target := by
  have howns : e.platform.frameOwnsMonitors = true := by rw [X.admits.platform]
  have hfin : e.platform.finalization = false := by rw [X.admits.platform]
  have hpl : e.platform.magicAccessors = ({} : Platform).magicAccessors := by rw [X.admits.platform]
  have hpl2 : e.platform.arrayCloneIsPublic = true := by rw [X.admits.platform]
  have a : ∀ x, x ∈ Bundle.npeArmAtoms n → x.holds args s none s [] = true := fun x hx => h x hx
  obtain ⟨T, Z, L, LZ, Y⟩ := ThrowableC.of_atoms (args := args) howns hfin hpl (fun x hx => h x (by simp [Bundle.npeArmAtoms, hx]))
  obtain ⟨N, LN, hcN, hnNF, hordN, hffS⟩ := NpeC.of_atoms (args := args) hpl hpl2 L Y (fun x hx => h x (by simp [Bundle.npeArmAtoms, hx]))
  obtain ⟨P1, L1, hP1m, hP1s⟩ := PassC.of_atoms (args := args) (s := s) hpl (X := Bundle.nN) (Y := Bundle.rN) (by decide) (by decide) LibCode.NullPointerException.Init0.at_0 LibCode.NullPointerException.Init0.at_1 LibCode.NullPointerException.Init0.at_4 (fun x hx => h x (by simp [Bundle.npeArmAtoms, hx]))
  obtain ⟨PR, LR, hPRm, hPRs⟩ := PassC.of_atoms (args := args) (s := s) hpl (X := Bundle.rN) (Y := Bundle.eN) (by decide) (by decide) LibCode.RuntimeException.Init0.at_0 LibCode.RuntimeException.Init0.at_1 LibCode.RuntimeException.Init0.at_4 (fun x hx => h x (by simp [Bundle.npeArmAtoms, hx]))
  obtain ⟨PE, LEx, hPEm, hPEs⟩ := PassC.of_atoms (args := args) (s := s) hpl (X := Bundle.eN) (Y := Bundle.tN) (by decide) (by decide) LibCode.Exception.Init0.at_0 LibCode.Exception.Init0.at_1 LibCode.Exception.Init0.at_4 (fun x hx => h x (by simp [Bundle.npeArmAtoms, hx]))
  have hfound : s.vm.findClass Bundle.nN = some P1.m.cls := findClass_of_methodNamed hP1m
  have ecls : N.cN = P1.m.cls := Option.some.inj (hcN.symm.trans hfound)
  have hk : s.vm.classes[P1.m.cls]? = some N.kN := by rw [← ecls]; exact LN.cls
  have hinit := Cond.initialized_spec hfound hk (a (.initialized Bundle.nN) (by simp [Bundle.npeArmAtoms]))
  have hctor : N.kN.findMethod "<init>" "()V" = some P1.m.idx := findMethod_of_methodNamed hP1m hk
  obtain ⟨c1, k1, hc1, hk1, -, -, -, hn⟩ := Cond.instantiable_spec (a (.instantiable Bundle.nN n) (by simp [Bundle.npeArmAtoms]))
  cases Option.some.inj (hc1.symm.trans hfound)
  cases Option.some.inj (hk1.symm.trans hk)
  have hlink1 : P1.sup = PR.m := Option.some.inj (hP1s.symm.trans hPRm)
  have hlinkR : PR.sup = PE.m := Option.some.inj (hPRs.symm.trans hPEm)
  have hlinkE : PE.sup = Z.m T.toThrowableT := Option.some.inj (hPEs.symm.trans Y.init0)
  have hsel0 : selectMethod e.platform s.vm P1.m.cls T.fill0 = .method T.fill0 := by
    obtain ⟨c2, r2, m2, q1, q2, q3, q4, -⟩ := Cond.selects_spec (a (.selects Bundle.nN Bundle.tFill0 Bundle.tFill0) (by simp [Bundle.npeArmAtoms]))
    cases Option.some.inj (q1.symm.trans hfound)
    cases Option.some.inj (q2.symm.trans (State.methodFound?_of_named Y.fill0 (by decide)))
    cases Option.some.inj (q3.symm.trans Y.fill0)
    rw [Launch.admits_selectMethod X.admits]; exact q4
  have hselF : selectMethod e.platform s.vm P1.m.cls T.fill = .method N.fill := by
    obtain ⟨c2, r2, m2, q1, q2, q3, q4, -⟩ := Cond.selects_spec (a (.selects Bundle.nN Bundle.tFill Bundle.nFill) (by simp [Bundle.npeArmAtoms]))
    cases Option.some.inj (q1.symm.trans hfound)
    cases Option.some.inj (q2.symm.trans (State.methodFound?_of_named Y.fill (by decide)))
    cases Option.some.inj (q3.symm.trans hnNF)
    rw [Launch.admits_selectMethod X.admits]; exact q4
  obtain ⟨cellS0, hcS0, hiss⟩ := Y.statics
  obtain ⟨u0, hu0'⟩ := Cond.staticRefV Y.unassigned L.unassignedStatic L.statics hcS0 hiss (a (.isRef (.static Bundle.tN "UNASSIGNED_STACK" Bundle.steD)) (by simp [Bundle.npeArmAtoms]))
  obtain ⟨sen, hsen⟩ := Cond.staticRefV Y.sentinel L.sentinelStatic L.statics hcS0 hiss (a (.isRef (.static Bundle.tN "SUPPRESSED_SENTINEL" Bundle.listD)) (by simp [Bundle.npeArmAtoms]))
  obtain ⟨ci198, i198, fB, hk198, hg198, ha198, hsB, -, hnB, htB, hffB⟩ := Cond.ownField (t := .object "java/lang/Object") Y.found L.cls (by decide +kernel) (a (.fieldLink Bundle.tN 198 Bundle.tN "backtrace" Bundle.objD) (by simp [Bundle.npeArmAtoms])) (a (.lays Bundle.tN Bundle.tN "backtrace" Bundle.objD) (by simp [Bundle.npeArmAtoms])) e.platform hpl
  obtain ⟨cellS, hcS', heS, -, hkeep⟩ := X.same.2.2.2.2.2 T.aS cellS0 hcS0
  have hcellS : T'.heap[T.aS]? = some cellS := hcS'
  have hout' : ∀ i, (⟨T.aS, i⟩ : Loc) ∉ locs := fun i hmem => by
    obtain ⟨cf, kf, fi, f, a2, cell2, z1, z2, z3, z4, z5, z6, z7, z8⟩ := hz
    cases Y.unassigned.symm.trans z1
    cases L.statics.symm.trans z4
    exact z8 (hloc _ hmem)
  have hknownS : cellS.vm ≠ .unknown := by
    rw [heS]; intro hu
    rw [show cellS0.vm = .unknown from hu] at hiss
    cases hiss
  obtain ⟨tyC, dC, hdC, hdnC⟩ := Cond.laysAt hfound hk Y.cause (a (.lays Bundle.nN Bundle.tN "cause" "Ljava/lang/Throwable;") (by simp [Bundle.npeArmAtoms]))
  obtain ⟨tyS, dS, hdS, hdnS⟩ := Cond.laysAt hfound hk Y.stack (a (.lays Bundle.nN Bundle.tN "stackTrace" Bundle.steD) (by simp [Bundle.npeArmAtoms]))
  obtain ⟨tyP, dP, hdP, hdnP⟩ := Cond.laysAt hfound hk Y.supp (a (.lays Bundle.nN Bundle.tN "suppressedExceptions" Bundle.listD) (by simp [Bundle.npeArmAtoms]))
  obtain ⟨tyX, dX, hdX, hdnX⟩ := Cond.laysAt hfound hk hffS (a (.lays Bundle.nN Bundle.nN "extendedMessageState" "I") (by simp [Bundle.npeArmAtoms, Bundle.npeAtoms]))
  have hnX : N.fState.name = "extendedMessageState" := (State.fieldFound?_type hffS (t := .int) (by decide +kernel)).1
  obtain ⟨tyB, dB, hdB, hdnB⟩ := Cond.laysAt hfound hk hffB (a (.lays Bundle.nN Bundle.tN "backtrace" Bundle.objD) (by simp [Bundle.npeArmAtoms]))
  have bC := Cond.laysApart hdB hdC hdnB hdnC (by rw [hnB, Y.causeName]; decide)
  have bS := Cond.laysApart hdB hdS hdnB hdnS (by rw [hnB, Y.stackName]; decide)
  have bP := Cond.laysApart hdB hdP hdnB hdnP (by rw [hnB, Y.suppName]; decide)
  have bX := Cond.laysApart hdB hdX hdnB hdnX (by rw [hnB, hnX]; decide)
  have hskip : SkipFacts T e.platform s (fun u => u) u0 ((npeCell N.toNpeT (preparedCellV T.toThrowableT (freshCell P1.m.cls N.kN) T'.heap.size u0 sen) T'.cur).withEntry T'.cur) :=
    ⟨{ ci198 := ci198, i198 := i198, fBack := fB }, ⟨hk198, hg198, ha198, hsB⟩, by
      have := fresh_default (c := P1.m.cls) tyB
      rw [htB] at this
      simpa [npeCell, preparedCellV, Cell.setSlot, Cell.withEntry, Array.getElem?_setIfInBounds, bC, bS, bP, bX, bC.symm, bS.symm, bP.symm, bX.symm, defaultValue] using this, fun _ _ => rfl⟩
  obtain ⟨hbeyond, hfreeW⟩ := vmMayN X hsize (.throwNew "java/lang/NullPointerException" none none) (fun f hf => by cases hf) rfl nf hnf hRlocals
  obtain ⟨g₀, hfr0⟩ := X.frames_eq
  have hl0 : T'.frames.length = below.length + 1 := by rw [hfr0]; rfl
  have hfr' : (.native nf :: .java g :: below).length + ([PR, PE] : List PassC).length + 5 < (e.platform.stackLimits T'.me).1 := by have := X.framesAbove hRframes; simp only [List.length_cons, List.length_nil]; omega
  have hu0 : (stackUse (.native nf :: .java g :: below)).2 = (stackUse (.java g :: below)).2 := by rw [stackUse_light _ _ (fun f hf => by cases hf) hnf]
  have hwd' : (stackUse (.native nf :: .java g :: below)).2 + 13 * ([PR, PE] : List PassC).length + 68 ≤ (e.platform.stackLimits T'.me).2 := by
    have := X.stackAbove hsize (K := 13 * 2 + 68) (by omega)
    rw [X.tail] at this
    rw [hu0]
    simp only [List.length_cons, List.length_nil]
    omega
  have hO1 := ovN X g nf
  have hO : OvF (T'.pushCell (freshCell P1.m.cls N.kN)) (.native nf :: .java g :: below) below := ⟨hO1.running, hO1.runnable, hO1.alone, hO1.cur, hO1.above⟩
  have hltS : T.aS < T'.heap.size := (Array.getElem?_eq_some_iff.mp hcellS).1
  have hw5 : (T'.pushCell (freshCell P1.m.cls N.kN)).heap[T.aS]? = some cellS := by
    rw [← hcellS]
    simp [State.pushCell, Array.getElem?_push, Nat.ne_of_lt hltS]
  have hWw : s.WarmedH (T'.pushCell (freshCell P1.m.cls N.kN)).vm := X.warmed
  have hlimW : e.platform.stackLimits (T'.pushCell (freshCell P1.m.cls N.kN)).me = e.platform.stackLimits T'.me := rfl
  obtain ⟨hfN, -, -⟩ := ov_in0 hO T'.heap.size (hWw.methodAt L1.method) L1.code (hWw.plainAt L1.plain)
  have hlimN : e.platform.stackLimits ((T'.pushCell (freshCell P1.m.cls N.kN)).setFrames (.thenThrow T'.heap.size :: .native nf :: .java g :: below)).me = e.platform.stackLimits T'.me := by rw [State.stackLimits_setFrames]; exact hlimW
  have hroom := roomAbove (pl := e.platform) (u := (T'.pushCell (freshCell P1.m.cls N.kN)).setFrames (.thenThrow T'.heap.size :: .native nf :: .java g :: below)) (vars := 1) (pushed := [.thenThrow T'.heap.size]) (base := (.native nf :: .java g :: below)) (free := 13 * ([PR, PE] : List PassC).length + 68) (lim := e.platform.stackLimits T'.me) hfN hlimN
    (by simp only [List.length_cons, List.length_nil] at hfr' ⊢; omega) (by omega) (by rw [stackUse_light _ _ (fun f hf => by cases hf) rfl, stackUse_nil]; show 0 + 1 + 11 ≤ _; omega)
  have HC : ∃ vm', s.WarmedH vm' ∧ ∀ target, Steps p.tables e below (((T'.pushCell (freshCell P1.m.cls N.kN)).setVm vm').setCell T'.heap.size (((npeCell N.toNpeT (preparedCellV T.toThrowableT (freshCell P1.m.cls N.kN) T'.heap.size u0 sen) T'.cur).withEntry T'.cur).setSlot T.fStack.slot u0.v).left.left |>.setFrames (.throwing T'.heap.size :: .native nf :: .java g :: below)) target → Steps p.tables e below (doInvoke e ((T'.pushCell (freshCell P1.m.cls N.kN)).setFrames (.thenThrow T'.heap.size :: .native nf :: .java g :: below)) [] P1.m #[.ref T'.heap.size]).1 target := by
    refine ov_ctor0 hO hexec (H := fun u => ((fun u => u) u).setCell T'.heap.size (((npeCell N.toNpeT (preparedCellV T.toThrowableT (freshCell P1.m.cls N.kN) T'.heap.size u0 sen) T'.cur).withEntry T'.cur).setSlot T.fStack.slot u0.v).left.left) (heapOnly_id.thenSetCell T'.heap.size _) P1 L1 hWw T'.heap.size hroom (fun vm1 hW1 hI1 => ?_)
    rw [show P1.sup = firstOf (Z.m T.toThrowableT) (([PR, PE] : List PassC).map (·.toPassT)) from hlink1]
    obtain ⟨-, -, hfI⟩ := ov_in0 (hO.vm vm1) T'.heap.size (hW1.methodAt L1.method) L1.code (hW1.plainAt (U := (T'.pushCell (freshCell P1.m.cls N.kN)).setVm vm1) L1.plain)
    have hXvm : ∀ w, ((((T'.pushCell (freshCell P1.m.cls N.kN)).setVm vm1).setFrames (.thenThrow T'.heap.size :: .native nf :: .java g :: below)).pushFrame (.java (pass0J P1.m T'.heap.size 0 []))).setVm w = ((((T'.pushCell (freshCell P1.m.cls N.kN)).setVm w).setFrames (.thenThrow T'.heap.size :: .native nf :: .java g :: below)).pushFrame (.java (pass0J P1.m T'.heap.size 0 []))) := fun w => by rw [State.pushFrame_setVm, State.setFrames_setVm, State.setVm_twice]
    have hXc : ((((T'.pushCell (freshCell P1.m.cls N.kN)).setVm vm1).setFrames (.thenThrow T'.heap.size :: .native nf :: .java g :: below)).pushFrame (.java (pass0J P1.m T'.heap.size 0 []))).heap[T'.heap.size]? = some (freshCell P1.m.cls N.kN) := State.heap_pushCell_size T' (freshCell P1.m.cls N.kN)
    have hXS : ((((T'.pushCell (freshCell P1.m.cls N.kN)).setVm vm1).setFrames (.thenThrow T'.heap.size :: .native nf :: .java g :: below)).pushFrame (.java (pass0J P1.m T'.heap.size 0 []))).heap[T.aS]? = some cellS := hw5
    have hXcur : ((((T'.pushCell (freshCell P1.m.cls N.kN)).setVm vm1).setFrames (.thenThrow T'.heap.size :: .native nf :: .java g :: below)).pushFrame (.java (pass0J P1.m T'.heap.size 0 []))).cur = T'.cur := rfl
    have hXW : s.WarmedH ((((T'.pushCell (freshCell P1.m.cls N.kN)).setVm vm1).setFrames (.thenThrow T'.heap.size :: .native nf :: .java g :: below)).pushFrame (.java (pass0J P1.m T'.heap.size 0 []))).vm := hW1
    have hXlim : e.platform.stackLimits ((((T'.pushCell (freshCell P1.m.cls N.kN)).setVm vm1).setFrames (.thenThrow T'.heap.size :: .native nf :: .java g :: below)).pushFrame (.java (pass0J P1.m T'.heap.size 0 []))).me = e.platform.stackLimits T'.me := by rw [State.stackLimits_pushFrame, State.stackLimits_setFrames]; exact hlimW
    suffices hs : ∃ vm2, s.WarmedH vm2 ∧ ∀ t' : State, Steps p.tables e below (((((((T'.pushCell (freshCell P1.m.cls N.kN)).setVm vm1).setFrames (.thenThrow T'.heap.size :: .native nf :: .java g :: below)).pushFrame (.java (pass0J P1.m T'.heap.size 0 []))).setVm vm2).setCell T'.heap.size (((npeCell N.toNpeT (preparedCellV T.toThrowableT (freshCell P1.m.cls N.kN) T'.heap.size u0 sen) T'.cur).withEntry T'.cur).setSlot T.fStack.slot u0.v).left.left).setTop (pass0J P1.m T'.heap.size 4 [])) t' → Steps p.tables e below (doInvoke e (((((T'.pushCell (freshCell P1.m.cls N.kN)).setVm vm1).setFrames (.thenThrow T'.heap.size :: .native nf :: .java g :: below)).pushFrame (.java (pass0J P1.m T'.heap.size 0 []))).setTop (pass0J P1.m T'.heap.size 1 [])) [] (firstOf (Z.m T.toThrowableT) (([PR, PE] : List PassC).map (·.toPassT))) #[.ref T'.heap.size]).1 t' by
      obtain ⟨vm2, hW2, st⟩ := hs
      exact ⟨vm2, hW2, fun t' h' => st t' (by rw [hXvm]; exact h')⟩
    clear hXvm
    generalize ((((T'.pushCell (freshCell P1.m.cls N.kN)).setVm vm1).setFrames (.thenThrow T'.heap.size :: .native nf :: .java g :: below)).pushFrame (.java (pass0J P1.m T'.heap.size 0 []))) = X' at hI1 hfI hXc hXS hXcur hXW hXlim ⊢
    exact Steps.initNpe0ColdByV p (V := X') (g := pass0J P1.m T'.heap.size 1 []) (c := P1.code) (self := T'.heap.size) hI1 hexec T L Z LZ N LN hXW hXcur (Nn := fun u => u) heapOnly_id (fun _ _ => rfl) (fun _ => rfl) (fun u x y => setCell_twice _ _ _ _) (fun _ => Nat.le_refl _) (u0 := u0) (sen := sen) (cN := ((npeCell N.toNpeT (preparedCellV T.toThrowableT (freshCell P1.m.cls N.kN) T'.heap.size u0 sen) T'.cur).withEntry T'.cur)) hXc (by intro k hk'; cases hk') (by intro hk'; cases hk') rfl hk hsel0 hXS (Nat.ne_of_lt hltS) hknownS (by rw [hkeep _ (hout' _)]; exact hu0') (by rw [fresh_default tyX, LN.stateInt]; rfl)
      (Cond.laysApart hdC hdX hdnC hdnX (by rw [Y.causeName, hnX]; decide)) (Cond.laysApart hdS hdX hdnS hdnX (by rw [Y.stackName, hnX]; decide)) (Cond.laysApart hdP hdX hdnP hdnX (by rw [Y.suppName, hnX]; decide))
      (Takes.of_laid hk hordN tyS (by rw [Y.stackType]; exact fits_refV_array _ u0)) (Takes.of_laid hk hordN tyX (by rw [LN.stateInt]; rfl)) (fun _ hu => hu) (fun _ hu => hu) rfl rfl rfl (by simp [npeCell, preparedCellV, Cell.setSlot, Cell.withEntry]) hskip (fun _ _ hA hW _ hroom _ hrest => L.nativeOff p htr hA hW hroom hrest) hselF (by rw [hkeep _ (hout' _)]; exact hsen) (Takes.of_laid hk hordN tyC (by rw [Y.causeType]; rfl)) (Takes.of_laid hk hordN tyP (by rw [Y.suppType]; exact fits_refV_object _ sen)) Y.objLocals [PR, PE] (fun P hP => by
        simp only [List.mem_cons, List.not_mem_nil, or_false] at hP
        rcases hP with rfl | rfl
        · exact LR
        · exact LEx) ⟨hlinkR, hlinkE, trivial⟩ (ig := .invokespecial P1.index) (len := 3) [] hXlim
      (by rw [hfI]; simp only [List.length_cons, List.length_nil] at hfr' ⊢; omega) (by rw [hfI, List.tail_cons, stackUse_java, stackUse_light _ _ (fun f hf => by cases hf) rfl]; show (stackUse (.native nf :: .java g :: below)).2 + (1 + 11 + 2 * 0 + operandWords []) + 13 * ([PR, PE] : List PassC).length + 55 ≤ _; simp only [operandWords, List.foldl_nil]; omega) L1.at1
  obtain ⟨vm', hW', st⟩ := HC
  have ST : ∀ target, Steps p.tables e below ((((T'.pushCell (freshCell P1.m.cls N.kN)).setVm vm').setCell T'.heap.size (((npeCell N.toNpeT (preparedCellV T.toThrowableT (freshCell P1.m.cls N.kN) T'.heap.size u0 sen) T'.cur).withEntry T'.cur).setSlot T.fStack.slot u0.v).left.left).setFrames (.throwing T'.heap.size :: .native nf :: .java g :: below)) target → Steps p.tables e below (T'.setFrames (.throwNew "java/lang/NullPointerException" none none :: .native nf :: .java g :: below)) target := by
    intro target hrest
    obtain ⟨kX', hk', he'⟩ := X.warmed.alike.2.2 _ _ hk
    have hty : kX'.instanceTypes = N.kN.instanceTypes := by rw [he']
    have hfresh : freshCell P1.m.cls kX' = (freshCell P1.m.cls N.kN) := by
      show ({ cls := P1.m.cls, slots := kX'.instanceTypes.map defaultValue, vm := .none } : Cell) = _
      rw [hty]
    have hf0 : (T'.setFrames (.throwNew "java/lang/NullPointerException" none none :: .native nf :: .java g :: below)).frames = .throwNew "java/lang/NullPointerException" none none :: .native nf :: .java g :: below := State.frames_setFrames _ hO1.cur
    refine Steps.head ⟨hO1.running, by simpa using hO1.runnable, by simpa using hO1.alone⟩ ⟨[.throwNew "java/lang/NullPointerException" none none, .native nf, .java g], by rw [hf0]; rfl, by simp, by simp⟩ ?_
    rw [stepThread_throwNew hf0, stepThrowNew_plain (s := T'.setFrames (.throwNew "java/lang/NullPointerException" none none :: .native nf :: .java g :: below)) (c := P1.m.cls) (k := kX') (i := P1.m.idx) (by decide) (by decide) (by show T'.vm.findClass Bundle.nN = _; rw [X.warmed.alike.findClass]; exact hfound) hk' (by rw [he']; exact hinit) (by rw [he']; exact hordN) (Launch.admits_hotImplicitExceptions X.admits) hbeyond hfreeW (by rw [he']; exact hctor) (X.cellsAbove hRcells) (by rw [hty]; exact X.slotsAbove (by rw [hn]; exact hRslots))]
    rw [State.pushCell_setFrames, State.setFrames_setFrames, hfresh]
    exact st target hrest
  rw [npeBareV_eq T.toThrowableT N.toNpeT T'.heap.size u0 sen T'.cur rfl rfl] at ST
  have X2 := (X.pushed (freshCell P1.m.cls N.kN)).noted hW'
  have hsz : ((T'.pushCell (freshCell P1.m.cls N.kN)).setVm vm').heap.size = T'.heap.size + 1 := State.heap_size_pushCell _ _
  have ha : T'.heap.size < ((T'.pushCell (freshCell P1.m.cls N.kN)).setVm vm').heap.size := by rw [hsz]; omega
  have hcell : ((T'.pushCell (freshCell P1.m.cls N.kN)).setVm vm').heap[T'.heap.size]? = some (freshCell P1.m.cls N.kN) := State.heap_pushCell_size T' (freshCell P1.m.cls N.kN)
  have X3 := ((((X2.stored hcell T.fCause.slot (.ref T'.heap.size)).storedAgain ha T.fStack.slot u0.v).storedAgain ha T.fSupp.slot sen.v).storedAgain ha N.fState.slot (.int 1)).storedAgain ha T.fStack.slot u0.v
  have hfs : (freshCell P1.m.cls N.kN).slots.size = n := by simp [hn]
  rw [hfs] at X3
  simp only [List.append_assoc, List.cons_append, List.nil_append] at X3
  refine ⟨_, _, npeBareV T.toThrowableT N.toNpeT (freshCell P1.m.cls N.kN) T'.heap.size u0 sen, ?_, ?_, heapAt_setCell_self (s := (T'.pushCell (freshCell P1.m.cls N.kN)).setVm vm') _ ha, rfl, hfound, ?_, X3, fun target hrest => ?_⟩
  · simp only [State.setCell, Array.size_setIfInBounds]; exact hsz
  · intro q hq
    rw [heapAt_setCell_ne (b := q) _ (Nat.ne_of_gt hq)]
    show (T'.heap.push _)[q]? = _
    rw [Array.getElem?_push]
    simp [Nat.ne_of_lt hq]
  · intro q hq
    simp only [List.mem_cons, List.not_mem_nil, or_false] at hq
    rcases hq with rfl | rfl | rfl | rfl | rfl <;> rfl
  · exact ST target hrest
set_option maxHeartbeats 1000000 in
theorem vmMsgN (X : Stand p l e R s m args below meth c T' locs cells slots) (hexec : p.tables.exec = Jvm.exec) (htr : e.platform.stackTraces = false) {cls : String} {names : List String} {text : String}
    (hcls : Bundle.fit cls = true) (hnames : ∀ n ∈ names, Bundle.fit n = true) (hsoe : (cls == "java/lang/StackOverflowError") = false) (hoom : (cls == "java/lang/OutOfMemoryError") = false)
    (h : ∀ a ∈ Bundle.messageArmAtoms cls names, a.before args s = true) {A : Nat → Prop} {v : Value} (hz : va_Z Bundle.tN "UNASSIGNED_STACK" Bundle.steD v A s s.heap) (hloc : ∀ x ∈ locs, A x.base)
    (htext : (text == notModelled) = false) (hlen : (stringBytes (stringToUtf16 text)).size ≤ 4000)
    {nf : NFrame} (hnf : (Frame.native nf).words = 0) {g : JFrame} (hsize : g.locals.size = c.maxLocals) (hRframes : names.length + 5 < R.frames) (hRlocals : 2 * g.monitorRoom + (g.stack.map fun v => v.category).sum + 10240 ≤ R.locals) (hshort : 13 * names.length + 55 ≤ 10240)
    (hRcells : cells + 3 ≤ R.cells) (hRslots : slots + 4010 ≤ R.slots) :
    ∃ (U : State) (L : List Loc) (cell : Cell), U.heap.size = T'.heap.size + 3 ∧ (∀ q : Nat, q < T'.heap.size → U.heap[q]? = T'.heap[q]?) ∧ U.heap[T'.heap.size + 2]? = some cell ∧ cell.vm = .none ∧ s.vm.findClass cls = some cell.cls ∧ (∀ q ∈ L, q.base = T'.heap.size + 2) ∧ Stand p l e R s m args below meth c U (locs ++ L) (cells + 3) (slots + 4010) ∧
      ∀ target, Steps p.tables e below (U.setFrames (.throwing (T'.heap.size + 2) :: .native nf :: .java g :: below)) target → Steps p.tables e below (T'.setFrames (.throwNew cls (some text) none :: .native nf :: .java g :: below)) target := by
  have howns : e.platform.frameOwnsMonitors = true := by rw [X.admits.platform]
  have hfin : e.platform.finalization = false := by rw [X.admits.platform]
  have hpl : e.platform.magicAccessors = ({} : Platform).magicAccessors := by rw [X.admits.platform]
  have hlimit : ¬ (stringBytes (stringToUtf16 text)).size > e.platform.arrayLengthLimit := by
    rw [X.admits.platform]; show ¬ _ > (2147483645 : Nat) <;> omega
  have hheap : ¬ (stringBytes (stringToUtf16 text)).size * componentBytes .byte > e.platform.maxHeapBytes := by
    rw [X.admits.platform]; show ¬ _ * 1 > (536870912 : Nat) <;> omega
  have a : ∀ x, x ∈ Bundle.messageArmAtoms cls names → x.holds args s none s [] = true := fun x hx => h x hx
  obtain ⟨T, Z0, L, -, Y⟩ := ThrowableC.of_atoms (args := args) howns hfin hpl (fun x hx => h x (by simp [Bundle.messageArmAtoms, hx]))
  obtain ⟨Z, M, LZ, LM, hnZ⟩ := Init0T.ofS_atoms (args := args) hpl L Y (fun x hx => h x (by simp [Bundle.messageArmAtoms, hx]))
  obtain ⟨P1, Ps, hplen, L1, hL, hP1m, hlink1, hlink⟩ := Bundle.chainS (args := args) hpl hnZ names cls hcls hnames (fun x hx => h x (by simp [Bundle.messageArmAtoms, hx]))
  obtain ⟨Zs, LZs, hn4, hfitv, hfitc⟩ := StringT.of_atoms (args := args) (fun x hx => h x (by simp [Bundle.messageArmAtoms, hx]))
  have hfound : s.vm.findClass cls = some P1.m.cls := findClass_of_methodNamed hP1m
  obtain ⟨c1, kX, hc1, hk, hord, -, -, hn6⟩ := Cond.instantiable_spec (a (.instantiable cls 6) (by simp [Bundle.messageArmAtoms]))
  cases Option.some.inj (hc1.symm.trans hfound)
  have hinit := Cond.initialized_spec hfound hk (a (.initialized cls) (by simp [Bundle.messageArmAtoms]))
  have hctor : kX.findMethod "<init>" "(Ljava/lang/String;)V" = some P1.m.idx := findMethod_of_methodNamed hP1m hk
  have hsel0 : selectMethod e.platform s.vm P1.m.cls T.fill0 = .method T.fill0 := by
    obtain ⟨c2, r2, m2, q1, q2, q3, q4, -⟩ := Cond.selects_spec (a (.selects cls Bundle.tFill0 Bundle.tFill0) (by simp [Bundle.messageArmAtoms]))
    cases Option.some.inj (q1.symm.trans hfound)
    cases Option.some.inj (q2.symm.trans (State.methodFound?_of_named Y.fill0 (by decide)))
    cases Option.some.inj (q3.symm.trans Y.fill0)
    rw [Launch.admits_selectMethod X.admits]; exact q4
  have hselF : selectMethod e.platform s.vm P1.m.cls T.fill = .method T.fill := by
    obtain ⟨c2, r2, m2, q1, q2, q3, q4, -⟩ := Cond.selects_spec (a (.selects cls Bundle.tFill Bundle.tFill) (by simp [Bundle.messageArmAtoms]))
    cases Option.some.inj (q1.symm.trans hfound)
    cases Option.some.inj (q2.symm.trans (State.methodFound?_of_named Y.fill (by decide)))
    cases Option.some.inj (q3.symm.trans Y.fill)
    rw [Launch.admits_selectMethod X.admits]; exact q4
  obtain ⟨cellS0, hcS0, hiss⟩ := Y.statics
  obtain ⟨u0, hu0'⟩ := Cond.staticRefV Y.unassigned L.unassignedStatic L.statics hcS0 hiss (a (.isRef (.static Bundle.tN "UNASSIGNED_STACK" Bundle.steD)) (by simp [Bundle.messageArmAtoms]))
  obtain ⟨sen, hsen⟩ := Cond.staticRefV Y.sentinel L.sentinelStatic L.statics hcS0 hiss (a (.isRef (.static Bundle.tN "SUPPRESSED_SENTINEL" Bundle.listD)) (by simp [Bundle.messageArmAtoms]))
  obtain ⟨ci198, i198, fB, hk198, hg198, ha198, hsB, -, hnB, htB, hffB⟩ := Cond.ownField (t := .object "java/lang/Object") Y.found L.cls (by decide +kernel) (a (.fieldLink Bundle.tN 198 Bundle.tN "backtrace" "Ljava/lang/Object;") (by simp [Bundle.messageArmAtoms])) (a (.lays Bundle.tN Bundle.tN "backtrace" "Ljava/lang/Object;") (by simp [Bundle.messageArmAtoms])) e.platform hpl
  obtain ⟨cellS, hcS', heS, -, hkeep⟩ := X.same.2.2.2.2.2 T.aS cellS0 hcS0
  have hcellS : T'.heap[T.aS]? = some cellS := hcS'
  have hout' : ∀ i, (⟨T.aS, i⟩ : Loc) ∉ locs := fun i hmem => by
    obtain ⟨cf, kf, fi, f, a2, cell2, z1, z2, z3, z4, z5, z6, z7, z8⟩ := hz
    cases Y.unassigned.symm.trans z1
    cases L.statics.symm.trans z4
    exact z8 (hloc _ hmem)
  have hknownS : cellS.vm ≠ .unknown := by
    rw [heS]; intro hu
    rw [show cellS0.vm = .unknown from hu] at hiss
    cases hiss
  obtain ⟨iM, hffM⟩ := Y.msg
  obtain ⟨tyC, dC, hdC, hdnC⟩ := Cond.laysAt hfound hk Y.cause (a (.lays cls Bundle.tN "cause" "Ljava/lang/Throwable;") (by simp [Bundle.messageArmAtoms]))
  obtain ⟨tyS, dS, hdS, hdnS⟩ := Cond.laysAt hfound hk Y.stack (a (.lays cls Bundle.tN "stackTrace" Bundle.steD) (by simp [Bundle.messageArmAtoms]))
  obtain ⟨tyP, dP, hdP, hdnP⟩ := Cond.laysAt hfound hk Y.supp (a (.lays cls Bundle.tN "suppressedExceptions" Bundle.listD) (by simp [Bundle.messageArmAtoms]))
  obtain ⟨tyM, dM, hdM, hdnM⟩ := Cond.laysAt hfound hk hffM (a (.lays cls Bundle.tN "detailMessage" "Ljava/lang/String;") (by simp [Bundle.messageArmAtoms]))
  obtain ⟨tyB, dB, hdB, hdnB⟩ := Cond.laysAt hfound hk hffB (a (.lays cls Bundle.tN "backtrace" "Ljava/lang/Object;") (by simp [Bundle.messageArmAtoms]))
  have bC := Cond.laysApart hdB hdC hdnB hdnC (by rw [hnB, Y.causeName]; decide)
  have bS := Cond.laysApart hdB hdS hdnB hdnS (by rw [hnB, Y.stackName]; decide)
  have bP := Cond.laysApart hdB hdP hdnB hdnP (by rw [hnB, Y.suppName]; decide)
  have hskip : SkipFacts T e.platform s (fun u => u) u0 ((preparedCellV T.toThrowableT (freshCell P1.m.cls kX) (T'.heap.size + 2) u0 sen).withEntry T'.cur) :=
    ⟨{ ci198 := ci198, i198 := i198, fBack := fB }, ⟨hk198, hg198, ha198, hsB⟩, by
      have := fresh_default (c := P1.m.cls) tyB
      rw [htB] at this
      simpa [preparedCellV, Cell.setSlot, Cell.withEntry, Array.getElem?_setIfInBounds, bC, bS, bP, bC.symm, bS.symm, bP.symm, defaultValue] using this, fun _ _ => rfl⟩
  obtain ⟨hbeyond, hfreeW⟩ := vmMayN X hsize (.throwNew cls (some text) none) (fun f hf => by cases hf) rfl nf hnf hRlocals
  obtain ⟨g₀, hfr0⟩ := X.frames_eq
  have hl0 : T'.frames.length = below.length + 1 := by rw [hfr0]; rfl
  have hfr' : (.native nf :: .java g :: below).length + Ps.length + 4 < (e.platform.stackLimits T'.me).1 := by have := X.framesAbove hRframes; rw [hplen]; simp only [List.length_cons, List.length_nil]; omega
  have hu0 : (stackUse (.native nf :: .java g :: below)).2 = (stackUse (.java g :: below)).2 := by rw [stackUse_light _ _ (fun f hf => by cases hf) hnf]
  have hwd' : (stackUse (.native nf :: .java g :: below)).2 + 13 * Ps.length + 55 ≤ (e.platform.stackLimits T'.me).2 := by
    have := X.stackAbove hsize (K := 13 * names.length + 55) (by omega)
    rw [X.tail] at this
    rw [hu0, hplen]
    omega
  have hslots : T'.slotsUsed + (stringBytes (stringToUtf16 text)).size + Zs.kS.instanceTypes.size + kX.instanceTypes.size ≤ e.platform.maxSlots := by have := X.slotsAbove hRslots; rw [hn4, hn6]; omega
  obtain ⟨w1, w2, w3, w4, w5, w6, w7⟩ := withThrown_facts e.platform T' Zs text P1.m.cls kX
  have hO1 := ovN X g nf
  have hO : OvF (withThrown T' Zs text P1.m.cls kX) (.native nf :: .java g :: below) below := by
    have hA1 : At (withThrown T' Zs text P1.m.cls kX) m c below := by simpa [withThrown, withString] using X.here
    exact ⟨hA1.running, hA1.runnable, hA1.alone, State.cur_lt_of_frames (w2.trans hfr0), hO1.above⟩
  have hltS : T.aS < T'.heap.size := (Array.getElem?_eq_some_iff.mp hcellS).1
  have hw5 : (withThrown T' Zs text P1.m.cls kX).heap[T.aS]? = some cellS := (w5 _ hltS).trans hcellS
  have hWw : s.WarmedH (withThrown T' Zs text P1.m.cls kX).vm := by rw [w1]; exact X.warmed
  have hlimW : e.platform.stackLimits (withThrown T' Zs text P1.m.cls kX).me = e.platform.stackLimits T'.me := w7
  obtain ⟨hfN, -, -⟩ := ov_inS hO (T'.heap.size + 2) (T'.heap.size + 1) (hWw.methodAt L1.method) L1.code (hWw.plainAt L1.plain)
  have hlimN : e.platform.stackLimits ((withThrown T' Zs text P1.m.cls kX).setFrames (.thenThrow (T'.heap.size + 2) :: .native nf :: .java g :: below)).me = e.platform.stackLimits T'.me := by rw [State.stackLimits_setFrames]; exact hlimW
  have hroom := roomAbove (pl := e.platform) (u := (withThrown T' Zs text P1.m.cls kX).setFrames (.thenThrow (T'.heap.size + 2) :: .native nf :: .java g :: below)) (vars := 2) (pushed := [.thenThrow (T'.heap.size + 2)]) (base := (.native nf :: .java g :: below)) (free := 13 * Ps.length + 55) (lim := e.platform.stackLimits T'.me) hfN hlimN
    (by simp only [List.length_cons, List.length_nil] at hfr' ⊢; omega) (by omega) (by rw [stackUse_light _ _ (fun f hf => by cases hf) rfl, stackUse_nil]; show 0 + 2 + 11 ≤ _; omega)
  have HC : ∃ vm', s.WarmedH vm' ∧ ∀ target, Steps p.tables e below (((withThrown T' Zs text P1.m.cls kX).setVm vm').setCell (T'.heap.size + 2) ((((preparedCellV T.toThrowableT (freshCell P1.m.cls kX) (T'.heap.size + 2) u0 sen).withEntry T'.cur).setSlot T.fStack.slot u0.v).left.setSlot T.fMsg.slot (.ref (T'.heap.size + 1))) |>.setFrames (.throwing (T'.heap.size + 2) :: .native nf :: .java g :: below)) target → Steps p.tables e below (doInvoke e ((withThrown T' Zs text P1.m.cls kX).setFrames (.thenThrow (T'.heap.size + 2) :: .native nf :: .java g :: below)) [] P1.m #[.ref (T'.heap.size + 2), .ref (T'.heap.size + 1)]).1 target := by
    refine ov_ctorS hO hexec (H := fun u => ((fun u => u) u).setCell (T'.heap.size + 2) ((((preparedCellV T.toThrowableT (freshCell P1.m.cls kX) (T'.heap.size + 2) u0 sen).withEntry T'.cur).setSlot T.fStack.slot u0.v).left.setSlot T.fMsg.slot (.ref (T'.heap.size + 1)))) (heapOnly_id.thenSetCell (T'.heap.size + 2) _) P1 L1 hWw (T'.heap.size + 2) (T'.heap.size + 1) hroom (fun vm1 hW1 hI1 => ?_)
    rw [show P1.sup = firstOf (Z.m T.toThrowableT) (Ps.map (·.toPassT)) from hlink1]
    obtain ⟨-, -, hfI⟩ := ov_inS (hO.vm vm1) (T'.heap.size + 2) (T'.heap.size + 1) (hW1.methodAt L1.method) L1.code (hW1.plainAt (U := (withThrown T' Zs text P1.m.cls kX).setVm vm1) L1.plain)
    have hXvm : ∀ w, ((((withThrown T' Zs text P1.m.cls kX).setVm vm1).setFrames (.thenThrow (T'.heap.size + 2) :: .native nf :: .java g :: below)).pushFrame (.java (passJ P1.m (T'.heap.size + 2) (.ref (T'.heap.size + 1)) 0 []))).setVm w = ((((withThrown T' Zs text P1.m.cls kX).setVm w).setFrames (.thenThrow (T'.heap.size + 2) :: .native nf :: .java g :: below)).pushFrame (.java (passJ P1.m (T'.heap.size + 2) (.ref (T'.heap.size + 1)) 0 []))) := fun w => by rw [State.pushFrame_setVm, State.setFrames_setVm, State.setVm_twice]
    have hXc : ((((withThrown T' Zs text P1.m.cls kX).setVm vm1).setFrames (.thenThrow (T'.heap.size + 2) :: .native nf :: .java g :: below)).pushFrame (.java (passJ P1.m (T'.heap.size + 2) (.ref (T'.heap.size + 1)) 0 []))).heap[(T'.heap.size + 2)]? = some (freshCell P1.m.cls kX) := w4
    have hXS : ((((withThrown T' Zs text P1.m.cls kX).setVm vm1).setFrames (.thenThrow (T'.heap.size + 2) :: .native nf :: .java g :: below)).pushFrame (.java (passJ P1.m (T'.heap.size + 2) (.ref (T'.heap.size + 1)) 0 []))).heap[T.aS]? = some cellS := hw5
    have hXcur : ((((withThrown T' Zs text P1.m.cls kX).setVm vm1).setFrames (.thenThrow (T'.heap.size + 2) :: .native nf :: .java g :: below)).pushFrame (.java (passJ P1.m (T'.heap.size + 2) (.ref (T'.heap.size + 1)) 0 []))).cur = T'.cur := by show (withThrown T' Zs text P1.m.cls kX).cur = _; simp [withThrown, withString]
    have hXW : s.WarmedH ((((withThrown T' Zs text P1.m.cls kX).setVm vm1).setFrames (.thenThrow (T'.heap.size + 2) :: .native nf :: .java g :: below)).pushFrame (.java (passJ P1.m (T'.heap.size + 2) (.ref (T'.heap.size + 1)) 0 []))).vm := hW1
    have hXlim : e.platform.stackLimits ((((withThrown T' Zs text P1.m.cls kX).setVm vm1).setFrames (.thenThrow (T'.heap.size + 2) :: .native nf :: .java g :: below)).pushFrame (.java (passJ P1.m (T'.heap.size + 2) (.ref (T'.heap.size + 1)) 0 []))).me = e.platform.stackLimits T'.me := by rw [State.stackLimits_pushFrame, State.stackLimits_setFrames]; exact hlimW
    suffices hs : ∃ vm2, s.WarmedH vm2 ∧ ∀ t' : State, Steps p.tables e below (((((((withThrown T' Zs text P1.m.cls kX).setVm vm1).setFrames (.thenThrow (T'.heap.size + 2) :: .native nf :: .java g :: below)).pushFrame (.java (passJ P1.m (T'.heap.size + 2) (.ref (T'.heap.size + 1)) 0 []))).setVm vm2).setCell (T'.heap.size + 2) ((((preparedCellV T.toThrowableT (freshCell P1.m.cls kX) (T'.heap.size + 2) u0 sen).withEntry T'.cur).setSlot T.fStack.slot u0.v).left.setSlot T.fMsg.slot (.ref (T'.heap.size + 1)))).setTop (passJ P1.m (T'.heap.size + 2) (.ref (T'.heap.size + 1)) 5 [])) t' → Steps p.tables e below (doInvoke e (((((withThrown T' Zs text P1.m.cls kX).setVm vm1).setFrames (.thenThrow (T'.heap.size + 2) :: .native nf :: .java g :: below)).pushFrame (.java (passJ P1.m (T'.heap.size + 2) (.ref (T'.heap.size + 1)) 0 []))).setTop (passJ P1.m (T'.heap.size + 2) (.ref (T'.heap.size + 1)) 2 [])) [] (firstOf (Z.m T.toThrowableT) (Ps.map (·.toPassT))) #[.ref (T'.heap.size + 2), .ref (T'.heap.size + 1)]).1 t' by
      obtain ⟨vm2, hW2, st⟩ := hs
      exact ⟨vm2, hW2, fun t' h' => st t' (by rw [hXvm]; exact h')⟩
    clear hXvm
    generalize ((((withThrown T' Zs text P1.m.cls kX).setVm vm1).setFrames (.thenThrow (T'.heap.size + 2) :: .native nf :: .java g :: below)).pushFrame (.java (passJ P1.m (T'.heap.size + 2) (.ref (T'.heap.size + 1)) 0 []))) = X' at hI1 hfI hXc hXS hXcur hXW hXlim ⊢
    exact Steps.initThrowableSColdByV p (V := X') (g := passJ P1.m (T'.heap.size + 2) (.ref (T'.heap.size + 1)) 2 []) (c := P1.code) (self := (T'.heap.size + 2)) hI1 hexec T L Z LZ M LM hXW hXcur (Nn := fun u => u) heapOnly_id (fun _ _ => rfl) (fun _ => rfl) (fun u x y => setCell_twice _ _ _ _) (fun _ => Nat.le_refl _) (msg := .ref (T'.heap.size + 1)) rfl (u0 := u0) (sen := sen) (cN := ((preparedCellV T.toThrowableT (freshCell P1.m.cls kX) (T'.heap.size + 2) u0 sen).withEntry T'.cur)) hXc (by intro k hk'; cases hk') (by intro hk'; cases hk') rfl hsel0 hXS (Nat.ne_of_lt (Nat.lt_of_lt_of_le hltS (Nat.le_add_right _ 2))) hknownS (by rw [hkeep _ (hout' _)]; exact hu0')
      (Takes.of_laid hk hord tyS (by rw [Y.stackType]; exact fits_refV_array _ u0)) (fun _ hu => hu) (fun _ hu => hu) rfl rfl rfl (by simp [preparedCellV, Cell.setSlot, Cell.withEntry]) hskip (fun _ _ hA hW _ hroom _ hrest => L.nativeOff p htr hA hW hroom hrest) hselF (by rw [hkeep _ (hout' _)]; exact hsen) (Takes.of_laid hk hord tyC (by rw [Y.causeType]; rfl)) (Takes.of_laid hk hord tyP (by rw [Y.suppType]; exact fits_refV_object _ sen)) (Takes.of_laid hk hord tyM (by rw [Y.msgType]; rfl)) Y.objLocals Ps hL hlink (ig := .invokespecial P1.index) (len := 3) [] hXlim
      (by rw [hfI]; simp only [List.length_cons, List.length_nil] at hfr' ⊢; omega) (by rw [hfI, List.tail_cons, stackUse_java, stackUse_light _ _ (fun f hf => by cases hf) rfl]; show (stackUse (.native nf :: .java g :: below)).2 + (2 + 11 + 2 * 0 + operandWords []) + 13 * Ps.length + 42 ≤ _; simp only [operandWords, List.foldl_nil]; omega) L1.at2
  obtain ⟨vm', hW', st⟩ := HC
  have ST : ∀ target, Steps p.tables e below ((((withThrown T' Zs text P1.m.cls kX).setVm vm').setCell (T'.heap.size + 2) ((((preparedCellV T.toThrowableT (freshCell P1.m.cls kX) (T'.heap.size + 2) u0 sen).withEntry T'.cur).setSlot T.fStack.slot u0.v).left.setSlot T.fMsg.slot (.ref (T'.heap.size + 1)))).setFrames (.throwing (T'.heap.size + 2) :: .native nf :: .java g :: below)) target → Steps p.tables e below (T'.setFrames (.throwNew cls (some text) none :: .native nf :: .java g :: below)) target := by
    intro target hrest
    obtain ⟨kX', hk', he'⟩ := X.warmed.alike.2.2 _ _ hk
    have hty : kX'.instanceTypes = kX.instanceTypes := by rw [he']
    have hfresh : freshCell P1.m.cls kX' = (freshCell P1.m.cls kX) := by
      show ({ cls := P1.m.cls, slots := kX'.instanceTypes.map defaultValue, vm := .none } : Cell) = _
      rw [hty]
    have hf0 : (T'.setFrames (.throwNew cls (some text) none :: .native nf :: .java g :: below)).frames = .throwNew cls (some text) none :: .native nf :: .java g :: below := State.frames_setFrames _ hO1.cur
    refine Steps.head ⟨hO1.running, by simpa using hO1.runnable, by simpa using hO1.alone⟩ ⟨[.throwNew cls (some text) none, .native nf, .java g], by rw [hf0]; rfl, by simp, by simp⟩ ?_
    obtain ⟨kS', kB', LZ', htyS⟩ := LZs.warmer X.warmed.alike
    have hsame : withThrown T' { Zs with kS := kS', kB := kB' } text P1.m.cls kX' = (withThrown T' Zs text P1.m.cls kX) := by
      rw [← withThrown_warmer T' Zs (kB' := kB') htyS text P1.m.cls kX]
      show (withString T' _ _ _ _ _ _).pushCell (freshCell P1.m.cls kX') = (withString T' _ _ _ _ _ _).pushCell (freshCell P1.m.cls kX)
      rw [hfresh]
    have hfs : (T'.setFrames (.throwNew cls (some text) none :: .native nf :: .java g :: below)).fitsSlot = s.fitsSlot := (show (T'.setFrames (.throwNew cls (some text) none :: .native nf :: .java g :: below)).fitsSlot = (s.setVm T'.vm).fitsSlot from rfl).trans (State.fitsSlot_setVm X.warmed.alike)
    rw [stepThread_throwNew hf0, stepThrowNew_message (s := T'.setFrames (.throwNew cls (some text) none :: .native nf :: .java g :: below)) (c := P1.m.cls) (k := kX') (i := P1.m.idx) { Zs with kS := kS', kB := kB' } LZ' hsoe hoom (by show T'.vm.findClass cls = _; rw [X.warmed.alike.findClass]; exact hfound) hk' (by rw [he']; exact hinit) (by rw [he']; exact hord) (Launch.admits_hotImplicitExceptions X.admits) hbeyond hfreeW htext (by rw [he']; exact hctor) hlimit hheap (X.cellsAbove hRcells) (by show T'.slotsUsed + _ + kS'.instanceTypes.size + kX'.instanceTypes.size ≤ _; rw [htyS, hty]; exact hslots) (by rw [hfs]; exact hfitv _) (by rw [hfs]; exact hfitc _)]
    rw [withThrown_setFrames, State.setFrames_setFrames, hsame]
    exact st target hrest
  rw [plainBareV_eq T.toThrowableT (T'.heap.size + 2) u0 sen (.ref (T'.heap.size + 1)) T'.cur rfl rfl] at ST
  have X3 := ((X.pushed (bytesOf Zs.cB (stringToUtf16 text))).pushed (stringAt Zs.cS Zs.kS Zs.fv Zs.fc (stringToUtf16 text) T'.heap.size)).pushed (freshCell P1.m.cls kX)
  rw [← withString_eq] at X3
  have X4 := X3.noted hW'
  have ha : (T'.heap.size + 2) < ((withThrown T' Zs text P1.m.cls kX).setVm vm').heap.size := by show _ < (withThrown T' Zs text P1.m.cls kX).heap.size; rw [w3]; omega
  have hcell : ((withThrown T' Zs text P1.m.cls kX).setVm vm').heap[(T'.heap.size + 2)]? = some (freshCell P1.m.cls kX) := w4
  have X5 := ((((X4.stored hcell T.fCause.slot (.ref (T'.heap.size + 2))).storedAgain ha T.fStack.slot u0.v).storedAgain ha T.fSupp.slot sen.v).storedAgain ha T.fStack.slot u0.v).storedAgain ha T.fMsg.slot (.ref (T'.heap.size + 1))
  have b1 : (bytesOf Zs.cB (stringToUtf16 text)).slots.size = (stringBytes (stringToUtf16 text)).size := by
    rw [(Cell.writeAll_facts _ _).2.2]; simp [bytes0]
  have b2 : (stringAt Zs.cS Zs.kS Zs.fv Zs.fc (stringToUtf16 text) T'.heap.size).slots.size = 4 := by simp [string0, Cell.setSlot, hn4]
  have b3 : (freshCell P1.m.cls kX).slots.size = 6 := by simp [hn6]
  rw [b1, b2, b3] at X5
  simp only [List.append_assoc, List.cons_append, List.nil_append] at X5
  have X6 := stand_widen X5 (k := cells + 3) (n := slots + 4010) (by omega) (by omega)
  refine ⟨_, _, plainBareV T.toThrowableT (freshCell P1.m.cls kX) (T'.heap.size + 2) u0 sen (.ref (T'.heap.size + 1)), ?_, ?_, heapAt_setCell_self (s := (withThrown T' Zs text P1.m.cls kX).setVm vm') _ ha, rfl, hfound, ?_, X6, fun target hrest => ?_⟩
  · simp only [State.setCell, Array.size_setIfInBounds]
    exact w3
  · intro q hq
    rw [heapAt_setCell_ne (a := T'.heap.size + 2) (b := q) _ (Nat.ne_of_gt (Nat.lt_of_lt_of_le hq (Nat.le_add_right _ 2)))]
    exact w5 q hq
  · intro q hq
    simp only [List.mem_cons, List.not_mem_nil, or_false] at hq
    rcases hq with rfl | rfl | rfl | rfl | rfl <;> rfl
  · exact ST target hrest
end VMN
