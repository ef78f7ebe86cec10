/-! rows of the walk under a further hypothesis X on the invocation's first state (printed by gen/law1.py) -/
set_option maxRecDepth 100000
def EWX (X : State → Prop) (l : Launch) (G : GW) (y : MethodName) (cc : ByteArray) (nL : Nat) (ret : Option FieldType) (fr mc ms : Nat) (Q : Option Value → AH → Nat → Prop) (k sl : Nat) (h : AH) (n : Nat) (pc : Nat) (L : List (Option Value)) (st : List Value) : Prop :=
  ∀ (p : Program) (e : Env) (s : State) (m : MethodId) (args : Array Value) (below : List Frame) (meth : Method) (c : Code), X s → EC G y cc nL ret p s m args meth c → ∀ (H : Heap) (locs : List Loc) (ls : Array Slot), HR G h n H → va_S (gW G) s.heap H locs → lvh G ls nL L →
    W p l e (rmW fr mc ms) s m args below meth c H locs k sl (MQE y below G Q args s mc ms) (F0 m pc ls (shs G st))
section EXR
variable {X : State → Prop} {l : Launch} {G : GW} {y : MethodName} {cc : ByteArray} {nL : Nat} {ret : Option FieldType} {fr mc ms : Nat} {Q : Option Value → AH → Nat → Prop} {k sl : Nat} {h : AH} {n pc t : Nat} {L : List (Option Value)} {st st0 : List Value}
theorem ex_cnt {k' sl' n' : Nat} (e1 : k ≤ k') (e2 : sl ≤ sl') (e3 : n = n') (kk : EWX X l G y cc nL ret fr mc ms Q k' sl' h n' pc L st) : EWX X l G y cc nL ret fr mc ms Q k sl h n pc L st := by
  subst e3
  intro p e s m args below meth c hXs C1 H locs ls hR hS hl
  exact W.widen e1 e2 (kk p e s m args below meth c hXs C1 H locs ls hR hS hl)
theorem ex_heap {h' : AH} (e : h = h') (kk : EWX X l G y cc nL ret fr mc ms Q k sl h' n pc L st) : EWX X l G y cc nL ret fr mc ms Q k sl h n pc L st := by
  subst e
  exact kk
theorem ex_new {ci N i : Nat} {C : String} {T : u_T} {ty : Nat → FieldType} {fs : List Value} {h' : AH} (F : FC ci C T N ty) (hd : decode cc pc = .ok (.new i, 3)) (hw : Cond.classLink y.cls i C ∈ lw_all) (hw2 : Cond.instantiable C N ∈ lw_all) (hw3 : Cond.initialized C ∈ lw_all) (hk : k + 1 ≤ mc) (hs : sl + N ≤ ms) (hfs : dfl N ty = fs) (hu : va_up h n (some (OB ci fs)) = h') (hp : pc + 3 = t) (kk : EWX X l G y cc nL ret fr mc ms Q (k + 1) (sl + N) h' (n + 1) t L (.ref n :: st)) : EWX X l G y cc nL ret fr mc ms Q k sl h n pc L (st) := by
  subst hp hu hfs
  intro p e s m args below meth c hXs C1 H locs ls hR hS hl
  have hKn := C1.2.2.2.2.1.1 ci _ F.1
  refine W.newcK C1.1.1 C1.1.2.1 C1.1.2.2.2.1 (C1.1.2.2.2.2 _ hw) (C1.1.2.2.2.2 _ hw2) (C1.1.2.2.2.2 _ hw3) rfl hd hk hs hKn.2.1 hR.1 fun H1 kC hkC e1 z1 o1 => ?_
  have kq := kk p e s m args below meth c hXs C1 H1 locs ls (hR.push (OB ci (dfl N ty)) (by
    refine ⟨_, F.1, (u_born ty C1.1.2.2.2.2 F.2.1 hKn hkC e1 F.2.2.1).to (fun j hj => ?_)⟩
    show _ = vp_V (shs G (dfl N ty)) j
    rw [shs_dfl]
    exact dfl_V hj) (by rw [z1, hR.1]) (fun q hq => o1 q (by rw [← hR.1]; exact hq))) ⟨by rw [z1, ← hR.1]; exact Nat.le_succ_of_le hS.1, fun q h1 h2 => (o1 q (by rw [← hR.1]; exact Nat.lt_of_lt_of_le h1 hS.1)).trans (hS.2.1 q h1 h2), hS.2.2⟩ hl
  have e2 : shs G (.ref n :: st) = .ref (gN G + n) :: shs G st := by
    show Value.ref (rho G n) :: shs G st = _
    rw [rho_pos G (by have := hR.2.1; omega)]
  rw [e2] at kq
  exact kq
/-! answers -/
theorem ex_dup {v : Value} (hd : decode cc pc = .ok (.dup, 1)) (hv : v.category = 1) (hp : pc + 1 = t) (kk : EWX X l G y cc nL ret fr mc ms Q k sl h n t L (v :: v :: st)) : EWX X l G y cc nL ret fr mc ms Q k sl h n pc L (v :: st) := by
  subst hp
  intro p e s m args below meth c hXs C H locs ls hR hS hl
  exact lv_dup C.1.1 C.1.2.1 hd (by rw [shv_cat]; exact hv) (kk p e s m args below meth c hXs C H locs ls hR hS hl)
theorem ex_callI {y' : MethodName} {cc' : ByteArray} {nL' fr' mc' ms' i a : Nat} {As : List Value} {Q' : Option Value → AH → Nat → Prop} (hM : AM l G y' cc' nL' none fr' mc' ms' (.ref a :: As) h n Q') (hw : Cond.methodLink y.cls i y' ∈ lw_all) (hw2 : Cond.instanceMethod y' ∈ lw_all) (hw3 : Cond.initialized y'.cls ∈ lw_all) (hw4 : Cond.code y' cc' nL' none ∈ lw_all) (hin : y'.name = "<init>") (hna : nArg y' As.length) (hd : decode cc pc = .ok (.invokespecial i, 3)) (hs0 : st0 = As.reverse ++ .ref a :: st) (hfr : fr' + 1 ≤ fr) (hnL : nL' ≤ 21) (hk : k + mc' ≤ mc) (hs : sl + ms' ≤ ms) (hst : (st.map fun v => v.category).sum ≤ 8) (hp : pc + 3 = t)
    (kk : ∀ (r : Option Value) (h1 : AH) (n1 : Nat), Q' r h1 n1 → EWX X l G y cc nL ret fr mc ms Q (k + mc') (sl + ms') h1 n1 t L (r.toList ++ st)) : EWX X l G y cc nL ret fr mc ms Q k sl h n pc L st0 := by
  subst hp hs0
  intro p e s m args below meth c hXs C1 H locs ls hR hS hl
  refine W_run (va_runI (b := rho G a) (As := shs G As) (rest := shs G st) C1.1 hM (cwI As.length C1.1.2.2.2.2 (lw_meth hw4) rfl rfl rfl (C1.1.2.2.2.2 _ hw3) (C1.1.2.2.2.2 _ hw) (C1.1.2.2.2.2 _ hw2) hin hna (rmW_ok hfr hnL)) ⟨PW_blind, PW_pre C1 hR hS⟩ rfl (shs_len As) hl.1 ?_ (lv_room (by rw [shs_cat]; exact hst)) hd ⟨hk, hs⟩) hS (fun r h1 n1 H1 locs1 hq hR1 hS1 => ?_)
  · show shs G (As.reverse ++ .ref a :: st) = _
    rw [shs_app, shs_rev]; rfl
  · rw [shs_ret]
    exact kk r h1 n1 hq p e s m args below meth c hXs C1 H1 locs1 ls hR1 hS1 hl
theorem ex_astore_n {L' : List (Option Value)} {j : Fin 4} {i : Nat} {x : Nat} (hd : decode cc pc = .ok (.astore_n j, 1)) (hi : (j : Nat) = i) (hn : i < nL) (hL : st1 L i (.ref x) = L') (hp : pc + 1 = t) (kk : EWX X l G y cc nL ret fr mc ms Q k sl h n t L' (st)) : EWX X l G y cc nL ret fr mc ms Q k sl h n pc L (.ref x :: st) := by
  subst hp
  subst hL
  intro p e s m args below meth c hXs C H locs ls hR hS hl
  exact lv_astore_n C.1.1 C.1.2.1 hd hi hl.has hn rfl (fun ls' hl' => kk p e s m args below meth c hXs C H locs ls' hR hS (lvh_st1 hl'))
theorem ex_ic0  (hd : decode cc pc = .ok (.iconst 0, 1)) (hp : pc + 1 = t) (kk : EWX X l G y cc nL ret fr mc ms Q k sl h n t L (.int 0 :: st)) : EWX X l G y cc nL ret fr mc ms Q k sl h n pc L (st) := by
  subst hp
  intro p e s m args below meth c hXs C H locs ls hR hS hl
  exact lv_iconst (v := 0) C.1.1 C.1.2.1 hd (by decide) (kk p e s m args below meth c hXs C H locs ls hR hS hl)
theorem ex_ic1  (hd : decode cc pc = .ok (.iconst 1, 1)) (hp : pc + 1 = t) (kk : EWX X l G y cc nL ret fr mc ms Q k sl h n t L (.int 1 :: st)) : EWX X l G y cc nL ret fr mc ms Q k sl h n pc L (st) := by
  subst hp
  intro p e s m args below meth c hXs C H locs ls hR hS hl
  exact lv_iconst (v := 1) C.1.1 C.1.2.1 hd (by decide) (kk p e s m args below meth c hXs C H locs ls hR hS hl)
theorem ex_ic2  (hd : decode cc pc = .ok (.iconst 2, 1)) (hp : pc + 1 = t) (kk : EWX X l G y cc nL ret fr mc ms Q k sl h n t L (.int 2 :: st)) : EWX X l G y cc nL ret fr mc ms Q k sl h n pc L (st) := by
  subst hp
  intro p e s m args below meth c hXs C H locs ls hR hS hl
  exact lv_iconst (v := 2) C.1.1 C.1.2.1 hd (by decide) (kk p e s m args below meth c hXs C H locs ls hR hS hl)
theorem ex_ic3  (hd : decode cc pc = .ok (.iconst 3, 1)) (hp : pc + 1 = t) (kk : EWX X l G y cc nL ret fr mc ms Q k sl h n t L (.int 3 :: st)) : EWX X l G y cc nL ret fr mc ms Q k sl h n pc L (st) := by
  subst hp
  intro p e s m args below meth c hXs C H locs ls hR hS hl
  exact lv_iconst (v := 3) C.1.1 C.1.2.1 hd (by decide) (kk p e s m args below meth c hXs C H locs ls hR hS hl)
theorem ex_ic4  (hd : decode cc pc = .ok (.iconst 4, 1)) (hp : pc + 1 = t) (kk : EWX X l G y cc nL ret fr mc ms Q k sl h n t L (.int 4 :: st)) : EWX X l G y cc nL ret fr mc ms Q k sl h n pc L (st) := by
  subst hp
  intro p e s m args below meth c hXs C H locs ls hR hS hl
  exact lv_iconst (v := 4) C.1.1 C.1.2.1 hd (by decide) (kk p e s m args below meth c hXs C H locs ls hR hS hl)
theorem ex_ic5  (hd : decode cc pc = .ok (.iconst 5, 1)) (hp : pc + 1 = t) (kk : EWX X l G y cc nL ret fr mc ms Q k sl h n t L (.int 5 :: st)) : EWX X l G y cc nL ret fr mc ms Q k sl h n pc L (st) := by
  subst hp
  intro p e s m args below meth c hXs C H locs ls hR hS hl
  exact lv_iconst (v := 5) C.1.1 C.1.2.1 hd (by decide) (kk p e s m args below meth c hXs C H locs ls hR hS hl)
theorem ex_istore_n {L' : List (Option Value)} {j : Fin 4} {i : Nat} {x : Int32} (hd : decode cc pc = .ok (.istore_n j, 1)) (hi : (j : Nat) = i) (hn : i < nL) (hL : st1 L i (.int x) = L') (hp : pc + 1 = t) (kk : EWX X l G y cc nL ret fr mc ms Q k sl h n t L' (st)) : EWX X l G y cc nL ret fr mc ms Q k sl h n pc L (.int x :: st) := by
  subst hp
  subst hL
  intro p e s m args below meth c hXs C H locs ls hR hS hl
  exact lv_istore_n C.1.1 C.1.2.1 hd hi hl.has hn rfl (fun ls' hl' => kk p e s m args below meth c hXs C H locs ls' hR hS (lvh_st1 hl'))
theorem ex_iload_n {j : Fin 4} {i : Nat} {x : Int32} (hd : decode cc pc = .ok (.iload_n j, 1)) (hi : (j : Nat) = i) (hv : L[i]? = some (some (.int x))) (hp : pc + 1 = t) (kk : EWX X l G y cc nL ret fr mc ms Q k sl h n t L (.int x :: st)) : EWX X l G y cc nL ret fr mc ms Q k sl h n pc L (st) := by
  subst hp
  intro p e s m args below meth c hXs C H locs ls hR hS hl
  exact lv_iload_n C.1.1 C.1.2.1 hd hi (hl.2.2 i _ hv) (kk p e s m args below meth c hXs C H locs ls hR hS hl)
theorem ex_aload_n {j : Fin 4} {i : Nat} {x : Nat} (hd : decode cc pc = .ok (.aload_n j, 1)) (hi : (j : Nat) = i) (hv : L[i]? = some (some (.ref x))) (hp : pc + 1 = t) (kk : EWX X l G y cc nL ret fr mc ms Q k sl h n t L (.ref x :: st)) : EWX X l G y cc nL ret fr mc ms Q k sl h n pc L (st) := by
  subst hp
  intro p e s m args below meth c hXs C H locs ls hR hS hl
  exact lv_aload_n C.1.1 C.1.2.1 hd hi (hl.2.2 i _ hv) (kk p e s m args below meth c hXs C H locs ls hR hS hl)
theorem ex_bipush {z : Int} {v : Int32} (hd : decode cc pc = .ok (.bipush z, 2)) (hv : (Int8.ofInt z).toInt32 = v) (hp : pc + 2 = t) (kk : EWX X l G y cc nL ret fr mc ms Q k sl h n t L (.int v :: st)) : EWX X l G y cc nL ret fr mc ms Q k sl h n pc L (st) := by
  subst hp
  intro p e s m args below meth c hXs C H locs ls hR hS hl
  exact lv_bipush (v := v) C.1.1 C.1.2.1 hd hv (kk p e s m args below meth c hXs C H locs ls hR hS hl)
theorem ex_isub {a b : Int32} (hd : decode cc pc = .ok (.isub, 1)) (hp : pc + 1 = t) (kk : EWX X l G y cc nL ret fr mc ms Q k sl h n t L (.int (a - b) :: st)) : EWX X l G y cc nL ret fr mc ms Q k sl h n pc L (.int b :: .int a :: st) := by
  subst hp
  intro p e s m args below meth c hXs C H locs ls hR hS hl
  exact lv_isub C.1.1 C.1.2.1 hd (kk p e s m args below meth c hXs C H locs ls hR hS hl)
theorem ex_iadd {a b : Int32} (hd : decode cc pc = .ok (.iadd, 1)) (hp : pc + 1 = t) (kk : EWX X l G y cc nL ret fr mc ms Q k sl h n t L (.int (a + b) :: st)) : EWX X l G y cc nL ret fr mc ms Q k sl h n pc L (.int b :: .int a :: st) := by
  subst hp
  intro p e s m args below meth c hXs C H locs ls hR hS hl
  exact lv_iadd C.1.1 C.1.2.1 hd (kk p e s m args below meth c hXs C H locs ls hR hS hl)
theorem ex_icmp_gt {a b : Int32} {off : Int} {t2 : Nat} (hd : decode cc pc = .ok (.if_icmp .gt off, 3)) (ht : (pc : Int) + off = (t : Int)) (hp : pc + 3 = t2) (kt : b < a → EWX X l G y cc nL ret fr mc ms Q k sl h n t L (st)) (kf : ¬ b < a → EWX X l G y cc nL ret fr mc ms Q k sl h n t2 L (st)) : EWX X l G y cc nL ret fr mc ms Q k sl h n pc L (.int b :: .int a :: st) := by
  subst hp
  intro p e s m args below meth c hXs C H locs ls hR hS hl
  exact lv_icmp_gt C.1.1 C.1.2.1 hd ht (fun q => kt q p e s m args below meth c hXs C H locs ls hR hS hl) (fun q => kf q p e s m args below meth c hXs C H locs ls hR hS hl)
theorem ex_icmp_eq {a b : Int32} {off : Int} {t2 : Nat} (hd : decode cc pc = .ok (.if_icmp .eq off, 3)) (ht : (pc : Int) + off = (t : Int)) (hp : pc + 3 = t2) (kt : a = b → EWX X l G y cc nL ret fr mc ms Q k sl h n t L (st)) (kf : ¬ a = b → EWX X l G y cc nL ret fr mc ms Q k sl h n t2 L (st)) : EWX X l G y cc nL ret fr mc ms Q k sl h n pc L (.int b :: .int a :: st) := by
  subst hp
  intro p e s m args below meth c hXs C H locs ls hR hS hl
  exact lv_icmp_eq C.1.1 C.1.2.1 hd ht (fun q => kt q p e s m args below meth c hXs C H locs ls hR hS hl) (fun q => kf q p e s m args below meth c hXs C H locs ls hR hS hl)
theorem ex_iand {a b : Int32} (hd : decode cc pc = .ok (.iand, 1)) (hp : pc + 1 = t) (kk : EWX X l G y cc nL ret fr mc ms Q k sl h n t L (.int (a &&& b) :: st)) : EWX X l G y cc nL ret fr mc ms Q k sl h n pc L (.int b :: .int a :: st) := by
  subst hp
  intro p e s m args below meth c hXs C H locs ls hR hS hl
  exact lv_iand C.1.1 C.1.2.1 hd (kk p e s m args below meth c hXs C H locs ls hR hS hl)
theorem ex_tableIn {d lo hi : Int} {offs : Array Int} {ln : Nat} {x : Int32} {off : Int} (hd : decode cc pc = .ok (.tableswitch d lo hi offs, ln)) (h1 : ¬ x.toInt < lo) (h2 : ¬ hi < x.toInt) (ho : offs[(x.toInt - lo).toNat]? = some off) (ht : (pc : Int) + off = (t : Int)) (kk : EWX X l G y cc nL ret fr mc ms Q k sl h n t L (st)) : EWX X l G y cc nL ret fr mc ms Q k sl h n pc L (.int x :: st) := by
  intro p e s m args below meth c hXs C H locs ls hR hS hl
  exact lv_tableIn C.1.1 C.1.2.1 hd h1 h2 ho ht (kk p e s m args below meth c hXs C H locs ls hR hS hl)
theorem ex_callV {y' : MethodName} {cc' : ByteArray} {nL' fr' mc' ms' i a : Nat} {ret' : Option FieldType} {As : List Value} {Q' : Option Value → AH → Nat → Prop} {ci N : Nat} {C : String} {T : u_T} {fs : List Value} (hM : AM l G y' cc' nL' ret' fr' mc' ms' (.ref a :: As) h n Q') (hcl : vwCl[ci]? = some (C, T, N)) (hh : h a = some (OB ci fs)) (hw : GoodIn lw_all (wsV y.cls i C y' (ws_ y' cc' nL' ret'))) (hC : y'.cls = C) (hna : nArg y' As.length) (hd : decode cc pc = .ok (.invokevirtual i, 3)) (hs0 : st0 = As.reverse ++ .ref a :: st) (hfr : fr' + 1 ≤ fr) (hnL : nL' ≤ 21) (hk : k + mc' ≤ mc) (hs : sl + ms' ≤ ms) (hst : (st.map fun v => v.category).sum ≤ 8) (hp : pc + 3 = t)
    (kk : ∀ (r : Option Value) (h1 : AH) (n1 : Nat), Q' r h1 n1 → EWX X l G y cc nL ret fr mc ms Q (k + mc') (sl + ms') h1 n1 t L (r.toList ++ st)) : EWX X l G y cc nL ret fr mc ms Q k sl h n pc L st0 := by
  subst hp hs0
  intro p e s m args below meth c hXs C1 H locs ls hR hS hl
  refine W_run (va_runV (b := rho G a) (As := shs G As) (rest := shs G st) C1.1 hM (cwV As.length C1.1.2.2.2.2 hw rfl rfl rfl ⟨hC, hna⟩ (rmW_ok hfr hnL)) ⟨PW_blind, recv C1 hR hcl hh, PW_pre C1 hR hS⟩ rfl (shs_len As) hl.1 ?_ (lv_room (by rw [shs_cat]; exact hst)) hd ⟨hk, hs⟩) hS (fun r h1 n1 H1 locs1 hq hR1 hS1 => ?_)
  · show shs G (As.reverse ++ .ref a :: st) = _
    rw [shs_app, shs_rev]; rfl
  · rw [shs_ret]
    exact kk r h1 n1 hq p e s m args below meth c hXs C1 H1 locs1 ls hR1 hS1 hl
theorem ex_callVW {y' : MethodName} {cc' : ByteArray} {nL' fr' mc' ms' i a : Nat} {ret' : Option FieldType} {As : List Value} {Q' : Option Value → AH → Nat → Prop} {ci N : Nat} {C : String} {T : u_T} {fs : List Value} (hM : AMW l G y' cc' nL' ret' fr' mc' ms' (.ref a :: As) h n Q') (hcl : vwCl[ci]? = some (C, T, N)) (hh : h a = some (OB ci fs)) (hw : GoodIn lw_all (wsV y.cls i C y' (wsW_ y' cc' nL' ret' (hdl y')))) (hC : y'.cls = C) (hna : nArg y' As.length) (hd : decode cc pc = .ok (.invokevirtual i, 3)) (hs0 : st0 = As.reverse ++ .ref a :: st) (hfr : fr' + 1 ≤ fr) (hnL : nL' ≤ 21) (hk : k + mc' ≤ mc) (hs : sl + ms' ≤ ms) (hst : (st.map fun v => v.category).sum ≤ 8) (hp : pc + 3 = t)
    (kk : ∀ (r : Option Value) (h1 : AH) (n1 : Nat), Q' r h1 n1 → EWX X l G y cc nL ret fr mc ms Q (k + mc') (sl + ms') h1 n1 t L (r.toList ++ st)) : EWX X l G y cc nL ret fr mc ms Q k sl h n pc L st0 := by
  subst hp hs0
  intro p e s m args below meth c hXs C1 H locs ls hR hS hl
  refine W_run (a := (Value.ref (rho G a) :: shs G As).toArray) (mc' := mc') (ms' := ms') (rest := shs G st) (Q' := Q') ?_ hS (fun r h1 n1 H1 locs1 hq hR1 hS1 => ?_)
  · intro T0 hT X
    have hwd : ∀ w ∈ wsV y.cls i C y' (wsW_ y' cc' nL' ret' (hdl y')), ∀ (a' : Array Value) (U : State), s.WarmedH U.vm → w.before a' U = true := pay_in C1.1.2.2.2.2 hw
    have hnow : ∀ w ∈ wsV y.cls i C y' (wsW_ y' cc' nL' ret' (hdl y')), w.before args s = true := fun w h => hwd w h args s (State.WarmedH.refl s)
    have hlink : (Cond.methodLink y.cls i y').before args s = true := hnow _ (by simp [wsV])
    have hinst : (Cond.instanceMethod y').before args s = true := hnow _ (by simp [wsV])
    have hsel : (Cond.selects C y' y').before args s = true := hnow _ (by simp [wsV])
    have hcode : (Cond.codeWith y' cc' nL' ret' (hdl y')).before args s = true := hnow _ (by simp [wsV])
    obtain ⟨cellB, hcB, hoB, hclB⟩ := recv C1 hR hcl hh
    obtain ⟨mk, methM, hnamed, hmethM, hstM, habM⟩ := Cond.instanceMethod_spec hinst
    obtain ⟨m9, methM', cM, hn9, hmethM', -, -, -, -, -, -, hsigM⟩ := Cond.codeWith_spec hcode
    cases hnamed.symm.trans hn9
    cases hmethM.symm.trans hmethM'
    obtain ⟨c2, r2, m2, q1, q2, q3, q4, kP, hkP, hkPi⟩ := Cond.selects_spec hsel
    cases hclB.symm.trans q1
    cases (State.methodFound?_of_named hnamed ⟨hna.1, hna.2.1⟩).symm.trans q2
    cases hnamed.symm.trans q3
    have hselP : selectMethod e.platform s.vm cellB.cls mk = .method mk := by rw [Launch.admits_selectMethod X.admits]; exact q4
    have hlen : (shs G As).length = methM.sig.parameters.length := by
      rw [shs_len]
      have h2 := hna.2.2
      rw [hsigM] at h2
      exact (Option.some.inj h2).symm
    have hK : Back l (rmW fr mc ms) p e below s args y' 3 8 (PreOf (rmW fr mc ms) mc' ms' (PW G (.ref a :: As) h n)) (PostOf (QW G Q') mc' ms' (gW G)) :=
      va_backW (hh := hdl y') (bytes := cc') (maxL := nL') (ret := ret') hM PW_blind rfl rfl (rmW_ok hfr hnL).1 (rmW_ok hfr hnL).2 (fun w hw' => hwd w (by unfold wsV; exact List.mem_append_right _ hw')) List.mem_cons_self (fun a' U hW => by rw [hC]; exact hwd (.initialized C) (by simp [wsV]) a' U hW)
    obtain ⟨vm₁, X₁, hstep₁⟩ := X.invokevirtual C1.1.1 C1.1.2.2.2.1 hlink hnamed hmethM hstM hkP hkPi ⟨hna.1, hna.2.1⟩ (a := rho G a) (cell := cellB) (by rw [hT]; exact hcB)
      (fun z h => by rw [h] at hoB; cases hoB) hselP hmethM habM hkP hkPi (g := F0 m pc ls (shs G (As.reverse ++ .ref a :: st))) rfl (argsL := shs G As) (rest := shs G st) hlen (by
        show shs G (As.reverse ++ .ref a :: st) = _
        rw [shs_app, shs_rev]; rfl) (by rw [C1.1.2.1]; exact hd)
    obtain ⟨v, ⟨U', l2, c2', s2⟩, X', ⟨g', mk', t, L2, e1, e2, hq, h1, hL, h2, h3⟩, hsteps⟩ := hK m meth c ⟨T0.setVm vm₁, locs, k, sl⟩ (F0 m pc ls (shs G st)) (.invokevirtual i) mk (Value.ref (rho G a) :: shs G As).toArray X₁ rfl (by rw [C1.1.2.2.1]; exact hl.1) (by rw [C1.1.2.1]; exact hd) (lv_room (by rw [shs_cat]; exact hst)) (X₁.named hnamed)
      ⟨hk, hs, PW_pre (as := .ref a :: As) C1 hR hS (T0.setVm vm₁) hT X₁.warmed⟩
    dsimp only [Pt.U, Pt.locs, Pt.cells, Pt.slots] at X' e1 e2 h1 h2 h3 hsteps
    subst h1; subst h2; subst h3
    exact ⟨v, (T0.setVm vm₁).calling g' mk' (Value.ref (rho G a) :: shs G As).toArray, t, U', L2, hT, X', hL, e1, e2, hq, fun target h => hstep₁ _ fun acts => by rw [doInvoke_state]; exact hsteps.trans h⟩
  · rw [shs_ret]
    exact kk r h1 n1 hq p e s m args below meth c hXs C1 H1 locs1 ls hR1 hS1 hl
theorem ex_iret {v : Int32} (hr : ret = some .int) (hd : decode cc pc = .ok (.ireturn, 1)) (hk : k ≤ mc) (hs : sl ≤ ms) (hq : Q (some (.int v)) h n) : EWX X l G y cc nL ret fr mc ms Q k sl h n pc L ([.int v]) := by
  intro p e s m args below meth c hXs C1 H locs ls hR hS hl
  refine W.widen hk hs (W_mono (fun _ => Or.inl) ?_)
  exact W.iret (v := v) C1.1.1 C1.1.2.1 (C1.2.1.trans hr) (fun t ht hW => ⟨⟨some (.int v), h, n, rfl, ⟨hq, rfl⟩, by rw [ht]; exact hR⟩, hS.F ht⟩) hS.2.2 hd C1.2.2.1
theorem ex_i2l {a : Int32} (hd : decode cc pc = .ok (.i2l, 1)) (hp : pc + 1 = t) (kk : EWX X l G y cc nL ret fr mc ms Q k sl h n t L (.long a.toInt64 :: st)) : EWX X l G y cc nL ret fr mc ms Q k sl h n pc L (.int a :: st) := by
  subst hp
  intro p e s m args below meth c hXs C H locs ls hR hS hl
  exact lv_i2l C.1.1 C.1.2.1 hd rfl (kk p e s m args below meth c hXs C H locs ls hR hS hl)
theorem ex_lshl {a : Int64} {b : Int32} (hd : decode cc pc = .ok (.lshl, 1)) (hp : pc + 1 = t) (kk : EWX X l G y cc nL ret fr mc ms Q k sl h n t L (.long (a <<< (b.toInt64 &&& 63)) :: st)) : EWX X l G y cc nL ret fr mc ms Q k sl h n pc L (.int b :: .long a :: st) := by
  subst hp
  intro p e s m args below meth c hXs C H locs ls hR hS hl
  exact lv_lshl C.1.1 C.1.2.1 hd rfl (kk p e s m args below meth c hXs C H locs ls hR hS hl)
theorem ex_ldc2 {i : Nat} {v : Int64} (hd : decode cc pc = .ok (.ldc2_w i, 3)) (hw : Cond.constantLong y.cls i v ∈ lw_all) (hp : pc + 3 = t) (kk : EWX X l G y cc nL ret fr mc ms Q k sl h n t L (.long v :: st)) : EWX X l G y cc nL ret fr mc ms Q k sl h n pc L (st) := by
  subst hp
  intro p e s m args below meth c hXs C H locs ls hR hS hl
  exact lv_ldc2 C.1.1 C.1.2.1 C.1.2.2.2.1 (C.1.2.2.2.2 _ hw) hd (kk p e s m args below meth c hXs C H locs ls hR hS hl)
theorem ex_land {a b : Int64} (hd : decode cc pc = .ok (.land, 1)) (hp : pc + 1 = t) (kk : EWX X l G y cc nL ret fr mc ms Q k sl h n t L (.long (a &&& b) :: st)) : EWX X l G y cc nL ret fr mc ms Q k sl h n pc L (.long b :: .long a :: st) := by
  subst hp
  intro p e s m args below meth c hXs C H locs ls hR hS hl
  exact lv_land C.1.1 C.1.2.1 hd (kk p e s m args below meth c hXs C H locs ls hR hS hl)
theorem ex_lor {a b : Int64} (hd : decode cc pc = .ok (.lor, 1)) (hp : pc + 1 = t) (kk : EWX X l G y cc nL ret fr mc ms Q k sl h n t L (.long (a ||| b) :: st)) : EWX X l G y cc nL ret fr mc ms Q k sl h n pc L (.long b :: .long a :: st) := by
  subst hp
  intro p e s m args below meth c hXs C H locs ls hR hS hl
  exact lv_lor C.1.1 C.1.2.1 hd (kk p e s m args below meth c hXs C H locs ls hR hS hl)
theorem ex_lcmp_eq {a b : Int64} {off : Int} {t1 t2 : Nat} (hd : decode cc pc = .ok (.lcmp, 1)) (h1 : pc + 1 = t1) (hd2 : decode cc t1 = .ok (.ifCond .eq off, 3)) (ht : (t1 : Int) + off = (t : Int)) (hp : t1 + 3 = t2) (kt : a = b → EWX X l G y cc nL ret fr mc ms Q k sl h n t L (st)) (kf : ¬ a = b → EWX X l G y cc nL ret fr mc ms Q k sl h n t2 L (st)) : EWX X l G y cc nL ret fr mc ms Q k sl h n pc L (.long b :: .long a :: st) := by
  subst h1
  subst hp
  intro p e s m args below meth c hXs C H locs ls hR hS hl
  refine W.lcmp C.1.1 C.1.2.1 hd ?_
  exact lv_if_eq C.1.1 C.1.2.1 hd2 ht (fun q => kt ((lg_cmp_eq a b).mp q) p e s m args below meth c hXs C H locs ls hR hS hl) (fun q => kf ((not_congr (lg_cmp_eq a b)).mp q) p e s m args below meth c hXs C H locs ls hR hS hl)
theorem ex_iinc {L' : List (Option Value)} {i : Nat} {z : Int} {x v : Int32} (hd : decode cc pc = .ok (.iinc i z, 3)) (hx : L[i]? = some (some (.int x))) (hv : x + Int32.ofInt z = v) (hn : i < nL) (hL : st1 L i (.int v) = L') (hp : pc + 3 = t) (kk : EWX X l G y cc nL ret fr mc ms Q k sl h n t L' (st)) : EWX X l G y cc nL ret fr mc ms Q k sl h n pc L (st) := by
  subst hp
  subst hL
  intro p e s m args below meth c hXs C H locs ls hR hS hl
  have hm := lvl_of (G := G) L 0 i _ hx
  rw [Nat.zero_add] at hm
  obtain ⟨q, hq⟩ := List.getElem?_of_mem hm
  exact lv_iinc (k := q) C.1.1 C.1.2.1 hd hl.has hq hv hn rfl (fun ls' hl' => kk p e s m args below meth c hXs C H locs ls' hR hS (lvh_st1 hl'))
theorem ex_goto {off : Int} (hd : decode cc pc = .ok (.goto off, 3)) (ht : (pc : Int) + off = (t : Int)) (kk : EWX X l G y cc nL ret fr mc ms Q k sl h n t L (st)) : EWX X l G y cc nL ret fr mc ms Q k sl h n pc L (st) := by
  intro p e s m args below meth c hXs C H locs ls hR hS hl
  exact lv_goto C.1.1 C.1.2.1 hd ht (kk p e s m args below meth c hXs C H locs ls hR hS hl)
/-- the script: its array is what a return address 3 stands for -/
theorem ex_aloadU {j : Fin 4} {i x : Nat} (hd : decode cc pc = .ok (.aload_n j, 1)) (hi : (j : Nat) = i) (hu : ∃ b, gU G (x + 1) = some b) (hv : L[i]? = some (some (.retAddr (x + 1)))) (hp : pc + 1 = t) (kk : EWX X l G y cc nL ret fr mc ms Q k sl h n t L (.retAddr (x + 1) :: st)) : EWX X l G y cc nL ret fr mc ms Q k sl h n pc L st := by
  subst hp
  obtain ⟨b, hb⟩ := hu
  have eb : shv G (.retAddr (x + 1)) = .ref b := by
    show va_rf (gU G (x + 1)) = _
    rw [hb]
    rfl
  intro p e s m args below meth c hXs C1 H locs ls hR hS hl
  have h1 := hl.2.2 i _ hv
  have k1 := kk p e s m args below meth c hXs C1 H locs ls hR hS hl
  rw [show shs G (.retAddr (x + 1) :: st) = .ref b :: shs G st from by show shv G (.retAddr (x + 1)) :: _ = _; rw [eb]] at k1
  rw [eb] at h1
  exact lv_aload_n C1.1.1 C1.1.2.1 hd hi h1 k1
theorem ex_slen {b N x : Nat} {xs : Nat → Int32} (hX : ∀ s, X s → va_X b N xs s s.heap ∧ b < s.heap.size) (hb : gU G (x + 1) = some b) (hbN : b ≤ gN G) (hd : decode cc pc = .ok (.arraylength, 1)) (hp : pc + 1 = t) (kk : EWX X l G y cc nL ret fr mc ms Q k sl h n t L (.int (nI N) :: st)) : EWX X l G y cc nL ret fr mc ms Q k sl h n pc L (.retAddr (x + 1) :: st) := by
  subst hp
  intro p e s m args below meth c hXs C1 H locs ls hR hS hl
  rw [show shs G (.retAddr (x + 1) :: st) = .ref b :: shs G st from by show va_rf (gU G (x + 1)) :: _ = _; rw [hb]; rfl]
  exact va_slen C1.1.1 C1.1.2.1 (hX s hXs).1 (hX s hXs).2 (by show ¬ gN G < b; omega) hS hd (kk p e s m args below meth c hXs C1 H locs ls hR hS hl)
theorem ex_sald {b N x : Nat} {xs : Nat → Int32} {i : Int32} {j : Nat} (hX : ∀ s, X s → va_X b N xs s s.heap ∧ b < s.heap.size) (hb : gU G (x + 1) = some b) (hbN : b ≤ gN G) (hin : vp_in i N) (hj : i.toNatClampNeg = j) (hd : decode cc pc = .ok (.iaload, 1)) (hp : pc + 1 = t) (kk : EWX X l G y cc nL ret fr mc ms Q k sl h n t L (.int (xs j) :: st)) : EWX X l G y cc nL ret fr mc ms Q k sl h n pc L (.int i :: .retAddr (x + 1) :: st) := by
  subst hp hj
  intro p e s m args below meth c hXs C1 H locs ls hR hS hl
  rw [show shs G (.int i :: .retAddr (x + 1) :: st) = .int i :: .ref b :: shs G st from by show Value.int i :: va_rf (gU G (x + 1)) :: _ = _; rw [hb]; rfl]
  exact va_sld C1.1.1 C1.1.2.1 (hX s hXs).1 (hX s hXs).2 (by show ¬ gN G < b; omega) hS hin hd (kk p e s m args below meth c hXs C1 H locs ls hR hS hl)
end EXR
