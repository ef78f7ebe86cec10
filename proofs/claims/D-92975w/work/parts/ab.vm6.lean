/-! the machine's own throw over other frames than a Java frame (a native method threw): printed by gen/vm6.py -/
set_option maxRecDepth 100000
def OvF (W : State) (fs below : List Frame) : Prop := W.status = .running ∧ W.curStatus? = some .runnable ∧ W.alone = true ∧ W.cur < W.threads.size ∧ ∃ mid, fs = mid ++ below ∧ mid ≠ []
theorem OvF.running {W : State} {fs below : List Frame} (h : OvF W fs below) : W.status = .running := h.1
theorem OvF.runnable {W : State} {fs below : List Frame} (h : OvF W fs below) : W.curStatus? = some .runnable := h.2.1
theorem OvF.alone {W : State} {fs below : List Frame} (h : OvF W fs below) : W.alone = true := h.2.2.1
theorem OvF.cur {W : State} {fs below : List Frame} (h : OvF W fs below) : W.cur < W.threads.size := h.2.2.2.1
theorem OvF.above {W : State} {fs below : List Frame} (h : OvF W fs below) : ∃ mid, fs = mid ++ below ∧ mid ≠ [] := h.2.2.2.2
theorem OvF.vm {W : State} {fs below : List Frame} (h : OvF W fs below) (vm' : Vm) : OvF (W.setVm vm') fs below := ⟨h.running, h.runnable, h.alone, h.cur, h.above⟩
theorem ov_inS {below fs : List Frame} {W : State} (hO : OvF W fs below) (a str : Addr) {m : MethodId} {meth : Method} {code : Code} (hm : W.vm.method? m = some meth) (hc : meth.code = some code) (hplain : W.plainMethod m) :
    (W.setFrames (.thenThrow a :: fs)).frames = .thenThrow a :: fs ∧ At ((W.setFrames (.thenThrow a :: fs)).pushFrame (.java (passJ m a (.ref str) 0 []))) m code below ∧
    ((W.setFrames (.thenThrow a :: fs)).pushFrame (.java (passJ m a (.ref str) 0 []))).frames = .java (passJ m a (.ref str) 0 []) :: .thenThrow a :: fs := by
  obtain ⟨mid, hmid, -⟩ := hO.above
  have hfN : (W.setFrames (.thenThrow a :: fs)).frames = .thenThrow a :: fs := State.frames_setFrames _ hO.cur
  have hcurN := State.cur_lt_of_frames hfN
  refine ⟨hfN, At.pushOn _ ⟨hO.running, by simpa using hO.runnable, by simpa using hO.alone⟩ hcurN ⟨.thenThrow a :: mid, by rw [hfN, hmid]; rfl⟩ hm hc hplain, ?_⟩
  rw [show ((W.setFrames (.thenThrow a :: fs)).pushFrame (.java (passJ m a (.ref str) 0 []))).frames = .java (passJ m a (.ref str) 0 []) :: (W.setFrames (.thenThrow a :: fs)).frames from State.frames_setFrames _ hcurN, hfN]
theorem ov_retS {tb : Tables} [Ours tb] {e : Env} {below fs : List Frame} {W target : State} (hO : OvF W fs below) (hexec : tb.exec = Jvm.exec) {H : State → State} (hH : HeapOnly H) (a str : Addr) {m : MethodId} {meth : Method} {code : Code}
    (hm : W.vm.method? m = some meth) (hc : meth.code = some code) (hplain : W.plainMethod m) (hl : meth.locks = false) (h5 : decode code.code 5 = .ok (.return_, 1)) (hrest : Steps tb e below ((H W).setFrames (.throwing a :: fs)) target) :
    Steps tb e below ((H ((W.setFrames (.thenThrow a :: fs)).pushFrame (.java (passJ m a (.ref str) 0 [])))).setTop (passJ m a (.ref str) 5 [])) target := by
  obtain ⟨hfN, hI, hfI⟩ := ov_inS hO a str hm hc hplain
  obtain ⟨mid, hmid, -⟩ := hO.above
  have hB := hH.at_ hI
  jvm_step hB [hexec, h5, return_.wp_sem]
  intro acts2
  have hfH := (hH.frames ((W.setFrames (.thenThrow a :: fs)).pushFrame (.java (passJ m a (.ref str) 0 [])))).trans hfI
  rw [ret_to (f := passJ m a (.ref str) 5 []) (f₀ := passJ m a (.ref str) 0 []) (below := .thenThrow a :: fs) (fs := .thenThrow a :: fs) (meth := meth) hfH (by rw [hH.vm]; exact hm) hl rfl rfl rfl acts2]
  have hHI : ∀ F, (H ((W.setFrames (.thenThrow a :: fs)).pushFrame (.java (passJ m a (.ref str) 0 [])))).setFrames F = (H W).setFrames F := by
    intro F
    rw [State.pushFrame, hH.setFrames, hH.setFrames, State.setFrames_setFrames, State.setFrames_setFrames]
  have hcB : ((H W).setFrames (.thenThrow a :: fs)).frames = .thenThrow a :: fs := by
    rw [← hHI]
    exact State.frames_setFrames _ (State.cur_lt_of_frames hfH)
  have hA1 : ((H W).setFrames (.thenThrow a :: fs)).goesOn := by
    rw [← hHI]
    exact ⟨hB.running, by simpa using hB.runnable, by simpa using hB.alone⟩
  rw [hHI]
  refine Steps.head hA1 ⟨.thenThrow a :: mid, by rw [hcB, hmid]; rfl, by simp, by simp⟩ ?_
  rw [stepThread_thenThrow hcB]
  show Steps tb e below (((H W).setFrames (.thenThrow a :: fs)).setFrames (.throwing a :: fs)) target
  rw [State.setFrames_setFrames]
  exact hrest
theorem ov_ctorS {tb : Tables} [Ours tb] {e : Env} {below fs : List Frame} {s₀ W : State} (hO : OvF W fs below) (hexec : tb.exec = Jvm.exec) {H : State → State} (hH : HeapOnly H) (P1 : PassC) (L1 : P1.LinksS e.platform s₀) (hW : s₀.WarmedH W.vm) (a str : Addr)
    (hroom : e.platform.stackFull (((W.setFrames (.thenThrow a :: fs)).threads[(W.setFrames (.thenThrow a :: fs)).cur]?).getD { frames := [] }) (W.setFrames (.thenThrow a :: fs)).frames 2 = false)
    (hsup : ∀ vm1, s₀.WarmedH vm1 → At (((W.setVm vm1).setFrames (.thenThrow a :: fs)).pushFrame (.java (passJ P1.m a (.ref str) 0 []))) P1.m P1.code below → ∃ vm2, s₀.WarmedH vm2 ∧ ∀ t' : State,
      Steps tb e below ((H (((W.setVm vm2).setFrames (.thenThrow a :: fs)).pushFrame (.java (passJ P1.m a (.ref str) 0 [])))).setTop (passJ P1.m a (.ref str) 5 [])) t' →
      Steps tb e below (doInvoke e ((((W.setVm vm1).setFrames (.thenThrow a :: fs)).pushFrame (.java (passJ P1.m a (.ref str) 0 []))).setTop (passJ P1.m a (.ref str) 2 [])) [] P1.sup #[.ref a, .ref str]).1 t') :
    ∃ vm', s₀.WarmedH vm' ∧ ∀ target, Steps tb e below ((H (W.setVm vm')).setFrames (.throwing a :: fs)) target → Steps tb e below (doInvoke e (W.setFrames (.thenThrow a :: fs)) [] P1.m #[.ref a, .ref str]).1 target := by
  have hmW := hW.methodAt L1.method
  obtain ⟨hfN, hI, hfI⟩ := ov_inS hO a str hmW L1.code (hW.plainAt L1.plain)
  obtain ⟨vm1, hW1, st1⟩ := Steps.invokeInitCold (tb := tb) (s₀ := s₀) (U := ((W.setFrames (.thenThrow a :: fs)).pushFrame (.java (passJ P1.m a (.ref str) 0 [])))) (f := passJ P1.m a (.ref str) 2 [.ref str, .ref a]) (args := [.ref str]) (rest := []) (a := a) hI hexec L1.at2 hW L1.links L1.right L1.notHandle L1.cls L1.file L1.pool
    L1.supClass L1.supMethod L1.supName L1.supStatic L1.supAbstract L1.supFound L1.supParams.symm rfl
  obtain ⟨vm2, hW2, st2⟩ := hsup vm1 hW1 (hI.setVm (hW.alike.symm.trans hW1.alike))
  refine ⟨vm2, hW2, fun target hrest => ?_⟩
  rw [(doInvoke_java (s := (W.setFrames (.thenThrow a :: fs))) (e := e) (acts := []) (args := #[.ref a, .ref str]) (meth := P1.meth) (code := P1.code) hmW L1.code L1.locks (by rw [L1.locals]; exact hroom)).1, L1.locals]
  show Steps tb e below ((W.setFrames (.thenThrow a :: fs)).pushFrame (.java (passJ P1.m a (.ref str) 0 []))) target
  rw [← State.setTop_self (s := ((W.setFrames (.thenThrow a :: fs)).pushFrame (.java (passJ P1.m a (.ref str) 0 [])))) (State.topJava?_of_frames hfI)]
  jvm_step hI [hexec, L1.at0, Value.isRef]
  jvm_step hI [hexec, L1.at1, Value.isRef]
  refine st1 target (st2 target ?_)
  exact ov_retS (W := W.setVm vm2) (hO.vm vm2) hexec hH a str (hW2.methodAt L1.method) L1.code (hW2.plainAt (U := W.setVm vm2) L1.plain) L1.locks L1.at5 hrest
theorem ov_in0 {below fs : List Frame} {W : State} (hO : OvF W fs below) (a : Addr) {m : MethodId} {meth : Method} {code : Code} (hm : W.vm.method? m = some meth) (hc : meth.code = some code) (hplain : W.plainMethod m) :
    (W.setFrames (.thenThrow a :: fs)).frames = .thenThrow a :: fs ∧ At ((W.setFrames (.thenThrow a :: fs)).pushFrame (.java (pass0J m a 0 []))) m code below ∧
    ((W.setFrames (.thenThrow a :: fs)).pushFrame (.java (pass0J m a 0 []))).frames = .java (pass0J m a 0 []) :: .thenThrow a :: fs := by
  obtain ⟨mid, hmid, -⟩ := hO.above
  have hfN : (W.setFrames (.thenThrow a :: fs)).frames = .thenThrow a :: fs := State.frames_setFrames _ hO.cur
  have hcurN := State.cur_lt_of_frames hfN
  refine ⟨hfN, At.pushOn _ ⟨hO.running, by simpa using hO.runnable, by simpa using hO.alone⟩ hcurN ⟨.thenThrow a :: mid, by rw [hfN, hmid]; rfl⟩ hm hc hplain, ?_⟩
  rw [show ((W.setFrames (.thenThrow a :: fs)).pushFrame (.java (pass0J m a 0 []))).frames = .java (pass0J m a 0 []) :: (W.setFrames (.thenThrow a :: fs)).frames from State.frames_setFrames _ hcurN, hfN]
theorem ov_ret0 {tb : Tables} [Ours tb] {e : Env} {below fs : List Frame} {W target : State} (hO : OvF W fs below) (hexec : tb.exec = Jvm.exec) {H : State → State} (hH : HeapOnly H) (a : Addr) {m : MethodId} {meth : Method} {code : Code}
    (hm : W.vm.method? m = some meth) (hc : meth.code = some code) (hplain : W.plainMethod m) (hl : meth.locks = false) (h5 : decode code.code 4 = .ok (.return_, 1)) (hrest : Steps tb e below ((H W).setFrames (.throwing a :: fs)) target) :
    Steps tb e below ((H ((W.setFrames (.thenThrow a :: fs)).pushFrame (.java (pass0J m a 0 [])))).setTop (pass0J m a 4 [])) target := by
  obtain ⟨hfN, hI, hfI⟩ := ov_in0 hO a hm hc hplain
  obtain ⟨mid, hmid, -⟩ := hO.above
  have hB := hH.at_ hI
  jvm_step hB [hexec, h5, return_.wp_sem]
  intro acts2
  have hfH := (hH.frames ((W.setFrames (.thenThrow a :: fs)).pushFrame (.java (pass0J m a 0 [])))).trans hfI
  rw [ret_to (f := pass0J m a 4 []) (f₀ := pass0J m a 0 []) (below := .thenThrow a :: fs) (fs := .thenThrow a :: fs) (meth := meth) hfH (by rw [hH.vm]; exact hm) hl rfl rfl rfl acts2]
  have hHI : ∀ F, (H ((W.setFrames (.thenThrow a :: fs)).pushFrame (.java (pass0J m a 0 [])))).setFrames F = (H W).setFrames F := by
    intro F
    rw [State.pushFrame, hH.setFrames, hH.setFrames, State.setFrames_setFrames, State.setFrames_setFrames]
  have hcB : ((H W).setFrames (.thenThrow a :: fs)).frames = .thenThrow a :: fs := by
    rw [← hHI]
    exact State.frames_setFrames _ (State.cur_lt_of_frames hfH)
  have hA1 : ((H W).setFrames (.thenThrow a :: fs)).goesOn := by
    rw [← hHI]
    exact ⟨hB.running, by simpa using hB.runnable, by simpa using hB.alone⟩
  rw [hHI]
  refine Steps.head hA1 ⟨.thenThrow a :: mid, by rw [hcB, hmid]; rfl, by simp, by simp⟩ ?_
  rw [stepThread_thenThrow hcB]
  show Steps tb e below (((H W).setFrames (.thenThrow a :: fs)).setFrames (.throwing a :: fs)) target
  rw [State.setFrames_setFrames]
  exact hrest
theorem ov_ctor0 {tb : Tables} [Ours tb] {e : Env} {below fs : List Frame} {s₀ W : State} (hO : OvF W fs below) (hexec : tb.exec = Jvm.exec) {H : State → State} (hH : HeapOnly H) (P1 : PassC) (L1 : P1.Links0 e.platform s₀) (hW : s₀.WarmedH W.vm) (a : Addr)
    (hroom : e.platform.stackFull (((W.setFrames (.thenThrow a :: fs)).threads[(W.setFrames (.thenThrow a :: fs)).cur]?).getD { frames := [] }) (W.setFrames (.thenThrow a :: fs)).frames 1 = false)
    (hsup : ∀ vm1, s₀.WarmedH vm1 → At (((W.setVm vm1).setFrames (.thenThrow a :: fs)).pushFrame (.java (pass0J P1.m a 0 []))) P1.m P1.code below → ∃ vm2, s₀.WarmedH vm2 ∧ ∀ t' : State,
      Steps tb e below ((H (((W.setVm vm2).setFrames (.thenThrow a :: fs)).pushFrame (.java (pass0J P1.m a 0 [])))).setTop (pass0J P1.m a 4 [])) t' →
      Steps tb e below (doInvoke e ((((W.setVm vm1).setFrames (.thenThrow a :: fs)).pushFrame (.java (pass0J P1.m a 0 []))).setTop (pass0J P1.m a 1 [])) [] P1.sup #[.ref a]).1 t') :
    ∃ vm', s₀.WarmedH vm' ∧ ∀ target, Steps tb e below ((H (W.setVm vm')).setFrames (.throwing a :: fs)) target → Steps tb e below (doInvoke e (W.setFrames (.thenThrow a :: fs)) [] P1.m #[.ref a]).1 target := by
  have hmW := hW.methodAt L1.method
  obtain ⟨hfN, hI, hfI⟩ := ov_in0 hO a hmW L1.code (hW.plainAt L1.plain)
  obtain ⟨vm1, hW1, st1⟩ := Steps.invokeInitCold (tb := tb) (s₀ := s₀) (U := ((W.setFrames (.thenThrow a :: fs)).pushFrame (.java (pass0J P1.m a 0 [])))) (f := pass0J P1.m a 1 [.ref a]) (args := []) (rest := []) (a := a) hI hexec L1.at1 hW L1.links L1.right L1.notHandle L1.cls L1.file L1.pool
    L1.supClass L1.supMethod L1.supName L1.supStatic L1.supAbstract L1.supFound L1.supParams.symm rfl
  obtain ⟨vm2, hW2, st2⟩ := hsup vm1 hW1 (hI.setVm (hW.alike.symm.trans hW1.alike))
  refine ⟨vm2, hW2, fun target hrest => ?_⟩
  rw [(doInvoke_java (s := (W.setFrames (.thenThrow a :: fs))) (e := e) (acts := []) (args := #[.ref a]) (meth := P1.meth) (code := P1.code) hmW L1.code L1.locks (by rw [L1.locals]; exact hroom)).1, L1.locals]
  show Steps tb e below ((W.setFrames (.thenThrow a :: fs)).pushFrame (.java (pass0J P1.m a 0 []))) target
  rw [← State.setTop_self (s := ((W.setFrames (.thenThrow a :: fs)).pushFrame (.java (pass0J P1.m a 0 [])))) (State.topJava?_of_frames hfI)]
  jvm_step hI [hexec, L1.at0, Value.isRef]
  refine st1 target (st2 target ?_)
  exact ov_ret0 (W := W.setVm vm2) (hO.vm vm2) hexec hH a (hW2.methodAt L1.method) L1.code (hW2.plainAt (U := W.setVm vm2) L1.plain) L1.locks L1.at4 hrest
