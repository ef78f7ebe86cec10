/-! System.arraycopy that throws, as rows over the abstract heap -/
set_option maxRecDepth 100000
theorem nt_note {tb : Tables} {e : Env} {below : List Frame} {s target : State} {g : JFrame} {c : Code} (h : At s g.method c below) {mk : MethodId} {meth : Method} {k : Class} {row : NativeRow} {as : Array Value} (acts : List Action)
    (hk : s.vm.classes[mk.cls]? = some k) (hx : k.methods[mk.idx]? = some meth) (hboot : k.loader = none) (hnat : meth.isNative = true) (hc : meth.code = none) (hl : meth.locks = false) (hrow : NativeRow.find? tb.natives k.name meth.name meth.desc = some row)
    (hroom : e.platform.stackFull (((s.setTop g).threads[(s.setTop g).cur]?).getD { frames := [] }) (s.setTop g).frames (nativeFrameWords k.name meth.name (operandWords as.toList)) = false) {cls : String} {msg : Option String}
    (hw : ∀ E : CtlPost, (∀ acts', E (.throwNew cls msg) acts' ((s.setTop g).pushFrame (.native { method := mk, args := seenByNative meth as, locked := none }))) → wp (row.sem (seenByNative meth as)) (fun _ _ _ _ => False) E e false [] ((s.setTop g).pushFrame (.native { method := mk, args := seenByNative meth as, locked := none })))
    (hrest : Steps tb e below (((s.setTop g).pushFrame (.native { method := mk, args := seenByNative meth as, locked := none })).pushFrame (.throwNew cls msg none)) target) : Steps tb e below (doInvoke e (s.setTop g) acts mk as).1 target := by
  have hm : (s.setTop g).vm.method? mk = some meth := by
    show s.vm.method? mk = some meth
    simp [Vm.method?, hk, hx]
  have hnm : (((s.setTop g).vm.classes[mk.cls]?).map (·.name)).getD "" = k.name := by
    show ((s.vm.classes[mk.cls]?).map (·.name)).getD "" = k.name
    simp [hk]
  rw [(Fast.doInvoke_native (s := s.setTop g) (e := e) (acts := acts) (args := as) hm hnat hc hl (by rw [hnm]; exact hroom)).1]
  generalize hnf : ({ method := mk, args := seenByNative meth as, locked := none } : NFrame) = nf at hw hrest ⊢
  have hfe := frames_entered (g := g) h.top (.native nf)
  obtain ⟨mid, hmid⟩ := h.above
  refine Steps.head ⟨h.running, by simpa using h.runnable, by simpa using h.alone⟩ ⟨.native nf :: .java g :: mid, by rw [hfe, hmid]; rfl, by simp, by simp⟩ ?_
  rw [stepThread_native (f := nf) (k := k) (x := meth) (row := row) hfe (by rw [← hnf]; exact hk) (by rw [← hnf]; exact hx) hboot hrow (by rw [← hnf])]
  have hw2 := (wpRun_iff_run _ _ _ _ _).mp (show wpRun (row.sem (seenByNative meth as)) (fun _ _ _ => False) (fun x s₁ _ => x = .throwNew cls msg ∧ s₁ = (s.setTop g).pushFrame (.native nf)) e ((s.setTop g).pushFrame (.native nf)) from hw _ (fun _ => ⟨rfl, rfl⟩))
  have ha : nf.args = seenByNative meth as := by rw [← hnf]
  rw [ha]
  cases hr : (row.sem (seenByNative meth as)).run e ((s.setTop g).pushFrame (.native nf)) with
  | ok v s₁ a₁ => rw [hr] at hw2; exact hw2.elim
  | ctl x s₁ a₁ =>
    rw [hr] at hw2
    cases x <;> first
      | exact hw2.elim
      | (obtain ⟨h1, h2⟩ := hw2; cases h1; subst h2; exact hrest)
      | (obtain ⟨h1, -⟩ := hw2; cases h1)
theorem nt_pop {tb : Tables} {e : Env} {below fs : List Frame} {u target : State} {a : Addr} {nf : NFrame} (hO : OvF u (.native nf :: fs) below) (hb : ∃ mid, fs = mid ++ below) (haw : nf.awaiting = false) (hl : nf.locked = none) (hrest : Steps tb e below (u.setFrames (.throwing a :: fs)) target) : Steps tb e below (u.setFrames (.throwing a :: .native nf :: fs)) target := by
  obtain ⟨mid, hmid⟩ := hb
  have hf : (u.setFrames (.throwing a :: .native nf :: fs)).frames = .throwing a :: .native nf :: fs := State.frames_setFrames _ hO.cur
  refine Steps.head ⟨hO.running, by simpa using hO.runnable, by simpa using hO.alone⟩ ⟨.throwing a :: .native nf :: mid, by rw [hf, hmid]; rfl, by simp, by simp⟩ ?_
  have e1 : (stepThread tb e (u.setFrames (.throwing a :: .native nf :: fs))).1 = (u.setFrames (.throwing a :: .native nf :: fs)).setFrames (.throwing a :: fs) := by
    unfold stepThread
    simp only [hf]
    unfold stepThrowing
    simp only [haw, Bool.false_eq_true, if_false, hl]
    unfold vmDo
    generalize hr : Sem.go _ e false _ (u.setFrames (.throwing a :: .native nf :: fs)) = res
    obtain ⟨as, rfl, -⟩ := Sem.eq_ok_of hr (a := true) (s' := u.setFrames (.throwing a :: .native nf :: fs)) (acts' := []) (by simp [leaveIfLocked, unmarked, Action.isMark])
    rfl
  rw [e1, State.setFrames_setFrames]
  exact hrest
/-- what a native sees unchanged -/
def seenV : Value → Prop
  | .ref _ => True
  | .null => True
  | _ => False
theorem seenV_ok {a b : Value} {x y z : Int32} (ha : seenV a) (hb : seenV b) : (#[a, .int x, b, .int y, .int z] : Array Value) = #[a, .int x, b, .int y, .int z] := rfl
theorem opw5 {a b : Value} {x y z : Int32} (ha : seenV a) (hb : seenV b) : operandWords (#[a, .int x, b, .int y, .int z] : Array Value).toList = 5 := by
  cases a <;> first | exact ha.elim | (cases b <;> first | exact hb.elim | rfl)
def ENN (l : Launch) (G : GW) (y : MethodName) (cc : ByteArray) (nL : Nat) (ret : Option FieldType) (fr mc ms : Nat) (Q : Option Value → AH → Nat → Prop) (k sl : Nat) (h : AH) (n : Nat) (pc : Nat) (L : List (Option Value)) (cls : String) (msg : Option String) : Prop :=
  ∀ (p : Program) (e : Env) (s : State) (m : MethodId) (args : Array Value) (below : List Frame) (meth : Method) (c : Code), EC G y cc nL ret p s m args meth c → ∀ (H : Heap) (locs : List Loc) (ls : Array Slot) (st : List Value), HR G h n H → va_S (gW G) s.heap H locs → lvh G ls nL L → (st.map fun v => v.category).sum ≤ 8 →
    ∀ nf : NFrame, (Frame.native nf).words = 0 → nf.awaiting = false → nf.locked = none → ∀ T : State, T.heap = H → Stand p l e (rmW fr mc ms) s m args below meth c T locs k sl → ∃ t, Steps p.tables e below (T.setFrames (.throwNew cls msg none :: .native nf :: .java (F0 m pc ls st) :: below)) t ∧ MQE y below G Q args s mc ms t
section ENNS
variable {l : Launch} {G : GW} {y : MethodName} {cc : ByteArray} {nL : Nat} {ret : Option FieldType} {fr mc ms : Nat} {Q : Option Value → AH → Nat → Prop} {k sl : Nat} {h : AH} {n pc t : Nat} {L : List (Option Value)} {st st0 : List Value}
theorem nn_npe (hfl : noTr l) (hfr : 257 ≤ fr) (hk : k + 1 ≤ mc) (hs : sl + 8 ≤ ms) {hp : Nat} (ht : HT y pc "java/lang/NullPointerException" hp) (kk : EW l G y cc nL ret fr mc ms Q (k + 1) (sl + 8) h (n + 1) hp L [.ref n]) : ENN l G y cc nL ret fr mc ms Q k sl h n pc L "java/lang/NullPointerException" none := by
  intro p e s m args below meth c C1 H locs ls st hR hS hl hst nf hnf haw hlk T hT X
  obtain ⟨U, Lx, cell, u1, u2, u3, u4, u5, u6, u7, u8⟩ := vmNpeN X C1.1.1 (hfl e X.admits) (at_npe C1) (C1.2.2.2.2.2.1.2.2.2.2.2.2.2.1) (fun x hx => hS.2.2 x hx) (nf := nf) hnf (g := F0 m pc ls st) (by rw [C1.1.2.2.1]; exact hl.1) (by show 8 < fr; omega) (by
    have := lv_room (m := m) (pc := pc) (ls := ls) (rest := st) hst
    show 2 * (F0 m pc ls st).monitorRoom + (st.map fun v => v.category).sum + 10240 ≤ 40 * fr
    omega) hk hs
  obtain ⟨t, a1, b1⟩ := en_caught (pc := pc) (st := st) (dn := 0) C1 hR hS hl hT u1 u2 u3 u4 u5 u6 u7 ht kk
  rw [throwing_eq u7] at a1
  exact ⟨t, u8 t (nt_pop (ovN u7 _ nf) ⟨[.java (F0 m pc ls st)], rfl⟩ haw hlk a1), b1⟩
theorem nn_msg (hfl : noTr l) (hfr : 257 ≤ fr) (hk : k + 3 ≤ mc) (hs : sl + 4010 ≤ ms) {hp : Nat} {cls text : String} {names : List String} (hcls : Bundle.fit cls = true) (hnames : ∀ n ∈ names, Bundle.fit n = true) (hsoe : (cls == "java/lang/StackOverflowError") = false) (hoom : (cls == "java/lang/OutOfMemoryError") = false) (hlen4 : names.length ≤ 4)
    (hat : ∀ {p : Program} {s : State} {m : MethodId} {args : Array Value} {meth : Method} {c : Code}, EC G y cc nL ret p s m args meth c → ∀ a ∈ Bundle.messageArmAtoms cls names, a.before args s = true) (htext : (text == notModelled) = false) (hlen : (stringBytes (stringToUtf16 text)).size ≤ 4000)
    (ht : HT y pc cls hp) (kk : EW l G y cc nL ret fr mc ms Q (k + 3) (sl + 4010) h (n + 3) hp L [.ref (n + 2)]) : ENN l G y cc nL ret fr mc ms Q k sl h n pc L cls (some text) := by
  intro p e s m args below meth c C1 H locs ls st hR hS hl hst nf hnf haw hlk T hT X
  obtain ⟨U, Lx, cell, u1, u2, u3, u4, u5, u6, u7, u8⟩ := vmMsgN X C1.1.1 (hfl e X.admits) hcls hnames hsoe hoom (hat C1) (C1.2.2.2.2.2.1.2.2.2.2.2.2.2.1) (fun x hx => hS.2.2 x hx) htext hlen (nf := nf) hnf (g := F0 m pc ls st) (by rw [C1.1.2.2.1]; exact hl.1) (by show _ < fr; omega) (by
    have := lv_room (m := m) (pc := pc) (ls := ls) (rest := st) hst
    show 2 * (F0 m pc ls st).monitorRoom + (st.map fun v => v.category).sum + 10240 ≤ 40 * fr
    omega) (by omega) hk hs
  obtain ⟨t, a1, b1⟩ := en_caught (pc := pc) (st := st) (dn := 2) C1 hR hS hl hT u1 u2 u3 u4 u5 u6 u7 ht kk
  rw [throwing_eq u7] at a1
  exact ⟨t, u8 t (nt_pop (ovN u7 _ nf) ⟨[.java (F0 m pc ls st)], rfl⟩ haw hlk a1), b1⟩
/-- System.arraycopy that throws -/
theorem ew_copyX {i : Nat} {v1 v2 : Value} {xs xd xn : Int32} {cls : String} {msg : Option String} (hw : Cond.methodLink y.cls i arraycopyName ∈ lw_all) (hw2 : Cond.native arraycopyName ∈ lw_all) (hw3 : Cond.static arraycopyName ∈ lw_all) (hw4 : Cond.initialized "java/lang/System" ∈ lw_all)
    (hwp : ∀ (U : State) (e : Env) (E : CtlPost), HR G h n U.heap → va_K (gD G) vwCl (gT G) U → (∀ acts', E (.throwNew cls msg) acts' U) → wp (Native.java_lang_System.arraycopy.sem #[shv G v1, .int xs, shv G v2, .int xd, .int xn]) (fun _ _ _ _ => False) E e false [] U)
    (hn1 : seenV (shv G v1)) (hn2 : seenV (shv G v2)) (hd : decode cc pc = .ok (.invokestatic i, 3)) (hfr : 1 ≤ fr) (hst : (st.map fun v => v.category).sum ≤ 8) (kk : ENN l G y cc nL ret fr mc ms Q k sl h n pc L cls msg) : EW l G y cc nL ret fr mc ms Q k sl h n pc L (.int xn :: .int xd :: v2 :: .int xs :: v1 :: st) := by
  intro p e s m args below meth c C1 H locs ls hR hS hl T hT X
  obtain ⟨r, kS, methS, hnS, hmS, hkS, N⟩ := NativeOf.of_static (C1.1.2.2.2.2 _ hw2) (C1.1.2.2.2.2 _ hw3) (ps := [.object "java/lang/Object", .int, .object "java/lang/Object", .int, .int]) (ret := none) (by decide +kernel)
  have hinitS : kS.init = .initialized := Cond.initialized_spec (findClass_of_methodNamed hnS) hkS (C1.1.2.2.2.2 _ hw4)
  obtain ⟨vm', X', step⟩ := X.invokestatic C1.1.1 C1.1.2.2.2.1 (C1.1.2.2.2.2 _ hw) hnS hmS N.static hkS hinitS (by decide) (g := F0 m pc ls (shs G (.int xn :: .int xd :: v2 :: .int xs :: v1 :: st))) rfl (argsL := [shv G v1, .int xs, shv G v2, .int xd, .int xn]) (rest := shs G st) (by rw [N.sig]; rfl) rfl (by rw [C1.1.2.1]; exact hd)
  have hA' : s.vm.Alike vm' := X'.warmed.alike
  obtain ⟨kS', N'⟩ := N.alike hA'
  have hseen : seenByNative methS #[shv G v1, .int xs, shv G v2, .int xd, .int xn] = #[shv G v1, .int xs, shv G v2, .int xd, .int xn] := by
    unfold seenByNative
    rw [N'.static, N'.sig]
    exact seenV_ok hn1 hn2
  obtain ⟨t, a1, b1⟩ := kk p e s m args below meth c C1 H locs ls (shs G st) hR hS hl (by rw [shs_cat]; exact hst) { method := r, args := seenByNative methS #[shv G v1, .int xs, shv G v2, .int xd, .int xn], locked := none } rfl rfl rfl (T.setVm vm') hT X'
  refine ⟨t, step t fun acts => ?_, b1⟩
  have hpush : (((T.setVm vm').setTop (F0 m pc ls (shs G st))).pushFrame (.native { method := r, args := seenByNative methS #[shv G v1, .int xs, shv G v2, .int xd, .int xn], locked := none })).pushFrame (.throwNew cls msg none) = (T.setVm vm').setFrames (.throwNew cls msg none :: .native { method := r, args := seenByNative methS #[shv G v1, .int xs, shv G v2, .int xd, .int xn], locked := none } :: .java (F0 m pc ls (shs G st)) :: below) := by
    obtain ⟨g₁, hfr1⟩ := X'.frames_eq
    have hcur := State.cur_lt_of_frames hfr1
    rw [State.pushFrame, State.pushFrame, State.frames_setTop _ hfr1, State.setTop_of_frames _ hfr1, State.setFrames_setFrames, State.setFrames_setFrames, State.setFrames_setFrames, State.frames_setFrames _ hcur]
  refine nt_note (row := arraycopyRow) (cls := cls) (msg := msg) X'.here acts N'.cls N'.meth N'.boot N'.native N'.noCode N'.noLock (by rw [N'.className, N'.name, N'.desc]; exact arraycopy_row p) (by
    rw [N'.className, N'.name]
    have hop : operandWords (#[shv G v1, .int xs, shv G v2, .int xd, .int xn] : Array Value).toList = 5 := opw5 hn1 hn2
    rw [hop]
    refine X'.notFull (g := F0 m pc ls (shs G st)) (by rw [C1.1.2.2.1]; exact hl.1) (vars := nativeFrameWords "java/lang/System" "arraycopy" 5) hfr ?_
    show 2 * 0 + ((shs G st).map fun v => v.category).sum + (nativeFrameWords "java/lang/System" "arraycopy" 5 + 11) ≤ 40 * fr
    rw [shs_cat]
    have := nfw_copy
    omega) (fun E hE => ?_) (by rw [hpush]; exact a1)
  rw [hseen] at hE ⊢
  rw [arraycopyRow_sem]
  have hC : va_K (gD G) vwCl (gT G) ((((T.setVm vm').setTop (F0 m pc ls (shs G st))).pushFrame (.native { method := r, args := #[shv G v1, .int xs, shv G v2, .int xd, .int xn], locked := none }))) := C1.2.2.2.2.1.moved hA'
  exact hwp _ e E (by show HR G h n T.heap; rw [hT]; exact hR) hC hE
end ENNS
