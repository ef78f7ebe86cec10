/-! calls by contract, over the abstract heap -/
set_option maxRecDepth 100000
section EWC
variable {l : Launch} {G : GW} {y : MethodName} {cc : ByteArray} {nL : Nat} {ret : Option FieldType} {fr mc ms : Nat} {Q : Option Value → AH → Nat → Prop} {k sl : Nat} {h : AH} {n pc t : Nat} {L : List (Option Value)} {st st0 : List Value}
theorem PW_blind {G : GW} {as : List Value} {h : AH} {n : Nat} : FrameBlind (PW G as h n) := fun a U g mk q => by
  obtain ⟨q0, q1, q2, q3⟩ := q
  exact ⟨q0, q1, va_K.moved (u := U) (U := U.calling g mk a) (Vm.Alike.refl U.vm) q2, EX.moved (s := U) (U := U.calling g mk a) (State.WarmedH.refl U) (fun _ _ _ => rfl) q3⟩
theorem PW_pre {G : GW} {y : MethodName} {cc : ByteArray} {nL : Nat} {ret : Option FieldType} {p : Program} {s : State} {m : MethodId} {args : Array Value} {meth : Method} {c : Code} (C1 : EC G y cc nL ret p s m args meth c) {as : List Value} {h : AH} {n : Nat} {H : Heap} {locs : List Loc} (hR : HR G h n H) (hS : va_S (gW G) s.heap H locs) : ∀ U : State, U.heap = H → s.WarmedH U.vm → PW G as h n (shs G as).toArray U :=
  fun U hU hW => ⟨rfl, by rw [hU]; exact hR, va_K.moved hW.alike C1.2.2.2.2.1, EX.moved hW (fun q h1 h2 => by rw [hU]; exact hS.2.1 q h1 h2) C1.2.2.2.2.2.1⟩
theorem W_run {G : GW} {p : Program} {l : Launch} {e : Env} {R : Room} {s : State} {m : MethodId} {args : Array Value} {below : List Frame} {meth : Method} {c : Code} {H : Heap} {locs : List Loc} {cells slots mc' ms' : Nat} {Qf : State → Prop} {Q' : Option Value → AH → Nat → Prop} {a : Array Value} {pc : Nat} {ls : Array Slot} {s0 rest : List Value}
    (hr : va_Run p l e R s m args below meth c H locs cells slots mc' ms' (F0 m pc ls s0) rest (QW G Q' a) (gW G)) (hS : va_S (gW G) s.heap H locs)
    (kk : ∀ (r : Option Value) (h1 : AH) (n1 : Nat) (H1 : Heap) (locs1 : List Loc), Q' r h1 n1 → HR G h1 n1 H1 → va_S (gW G) s.heap H1 locs1 → W p l e R s m args below meth c H1 locs1 (cells + mc') (slots + ms') Qf (F0 m (pc + 3) ls ((r.map (shv G)).toList ++ rest))) : W p l e R s m args below meth c H locs cells slots Qf (F0 m pc ls s0) := by
  intro T hT X
  obtain ⟨v, st₀, t, T', L, h0, X', hL, e1, e2, ⟨⟨r, h1, n1, hv, hq, hR1⟩, hz, hk⟩, st⟩ := hr T hT X
  cases hv
  rw [h0] at hz hk
  obtain ⟨t2, a1, b1⟩ := kk r h1 n1 T'.heap (locs ++ L) hq (by rw [e1]; exact hR1)
    ⟨Nat.le_trans hS.1 (by rw [e1]; exact hz), fun q g1 g2 => by rw [e1, hk q (Nat.lt_of_lt_of_le g1 hS.1) g2]; exact hS.2.1 q g1 g2, fun q hq => by
      rcases List.mem_append.mp hq with h | h
      · exact hS.2.2 q h
      · exact hL q h⟩ T' rfl X'
  exact ⟨t2, st t2 a1, b1⟩
theorem W_run5 {G : GW} {p : Program} {l : Launch} {e : Env} {R : Room} {s : State} {m : MethodId} {args : Array Value} {below : List Frame} {meth : Method} {c : Code} {H : Heap} {locs : List Loc} {cells slots mc' ms' : Nat} {Qf : State → Prop} {Q' : Option Value → AH → Nat → Prop} {a : Array Value} {pc : Nat} {ls : Array Slot} {s0 rest : List Value}
    (hr : va_Run5 p l e R s m args below meth c H locs cells slots mc' ms' (F0 m pc ls s0) rest (QW G Q' a) (gW G)) (hS : va_S (gW G) s.heap H locs)
    (kk : ∀ (r : Option Value) (h1 : AH) (n1 : Nat) (H1 : Heap) (locs1 : List Loc), Q' r h1 n1 → HR G h1 n1 H1 → va_S (gW G) s.heap H1 locs1 → W p l e R s m args below meth c H1 locs1 (cells + mc') (slots + ms') Qf (F0 m (pc + 5) ls ((r.map (shv G)).toList ++ rest))) : W p l e R s m args below meth c H locs cells slots Qf (F0 m pc ls s0) := by
  intro T hT X
  obtain ⟨v, st₀, t, T', L, h0, X', hL, e1, e2, ⟨⟨r, h1, n1, hv, hq, hR1⟩, hz, hk⟩, st⟩ := hr T hT X
  cases hv
  rw [h0] at hz hk
  obtain ⟨t2, a1, b1⟩ := kk r h1 n1 T'.heap (locs ++ L) hq (by rw [e1]; exact hR1)
    ⟨Nat.le_trans hS.1 (by rw [e1]; exact hz), fun q g1 g2 => by rw [e1, hk q (Nat.lt_of_lt_of_le g1 hS.1) g2]; exact hS.2.1 q g1 g2, fun q hq => by
      rcases List.mem_append.mp hq with h | h
      · exact hS.2.2 q h
      · exact hL q h⟩ T' rfl X'
  exact ⟨t2, st t2 a1, b1⟩
theorem rmW_ok {fr fr' nL' mc ms mc' ms' : Nat} (hfr : fr' + 1 ≤ fr) (hnL : nL' ≤ 21) : (rmW fr' mc' ms').frames + 1 ≤ (rmW fr mc ms).frames ∧ 8 + (nL' + 11) + (rmW fr' mc' ms').locals ≤ (rmW fr mc ms).locals := by
  refine ⟨hfr, ?_⟩
  show 8 + (nL' + 11) + 40 * fr' ≤ 40 * fr
  omega
theorem shs_ret (G : GW) (r : Option Value) (st : List Value) : (r.map (shv G)).toList ++ shs G st = shs G (r.toList ++ st) := by
  cases r <;> rfl
theorem recv {p : Program} {s : State} {m : MethodId} {args : Array Value} {meth : Method} {c : Code} (C1 : EC G y cc nL ret p s m args meth c) {H : Heap} (hR : HR G h n H) {ci a N : Nat} {C : String} {T : u_T} {fs : List Value} (hcl : vwCl[ci]? = some (C, T, N)) (hh : h a = some (OB ci fs)) : ∃ cellB : Cell, H[rho G a]? = some cellB ∧ cellB.vm.isStatics = false ∧ s.vm.findClass C = some cellB.cls :=
  va_recv (q := (C, T, N)) C1.2.2.2.2.1 (hR.one hh) hcl (q0 := 0) rfl
/-- a call's number of arguments -/
def nArg (y : MethodName) (n : Nat) : Prop := y.cls ≠ "java/lang/invoke/MethodHandle" ∧ y.cls ≠ "java/lang/invoke/VarHandle" ∧ (parseMethodDescriptor y.desc).map (fun d => d.parameters.length) = some n
section one
variable {y' : MethodName} {cc' : ByteArray} {nL' fr' mc' ms' i a : Nat} {ret' : Option FieldType} {As : List Value} {Q' : Option Value → AH → Nat → Prop}
theorem ew_callV {ci N : Nat} {C : String} {T : u_T} {fs : List Value} (hM : AM l G y' cc' nL' ret' fr' mc' ms' (.ref a :: As) h n Q') (hcl : vwCl[ci]? = some (C, T, N)) (hh : h a = some (OB ci fs)) (hw : GoodIn lw_all (wsV y.cls i C y' (ws_ y' cc' nL' ret'))) (hC : y'.cls = C) (hna : nArg y' As.length) (hd : decode cc pc = .ok (.invokevirtual i, 3)) (hs0 : st0 = As.reverse ++ .ref a :: st) (hfr : fr' + 1 ≤ fr) (hnL : nL' ≤ 21) (hk : k + mc' ≤ mc) (hs : sl + ms' ≤ ms) (hst : (st.map fun v => v.category).sum ≤ 8) (hp : pc + 3 = t)
    (kk : ∀ (r : Option Value) (h1 : AH) (n1 : Nat), Q' r h1 n1 → EW l G y cc nL ret fr mc ms Q (k + mc') (sl + ms') h1 n1 t L (r.toList ++ st)) : EW l G y cc nL ret fr mc ms Q k sl h n pc L st0 := by
  subst hp hs0
  intro p e s m args below meth c C1 H locs ls hR hS hl
  refine W_run (va_runV (b := rho G a) (As := shs G As) (rest := shs G st) C1.1 hM (cwV As.length C1.1.2.2.2.2 hw rfl rfl rfl ⟨hC, hna⟩ (rmW_ok hfr hnL)) ⟨PW_blind, recv C1 hR hcl hh, PW_pre C1 hR hS⟩ rfl (shs_len As) hl.1 ?_ (lv_room (by rw [shs_cat]; exact hst)) hd ⟨hk, hs⟩) hS (fun r h1 n1 H1 locs1 hq hR1 hS1 => ?_)
  · show shs G (As.reverse ++ .ref a :: st) = _
    rw [shs_app, shs_rev]; rfl
  · rw [shs_ret]
    exact kk r h1 n1 hq p e s m args below meth c C1 H1 locs1 ls hR1 hS1 hl
theorem ew_callS (hM : AM l G y' cc' nL' ret' fr' mc' ms' As h n Q') (hw : GoodIn lw_all (va_wsS y.cls i y' (ws_ y' cc' nL' ret'))) (hna : nArg y' As.length) (hd : decode cc pc = .ok (.invokestatic i, 3)) (hs0 : st0 = As.reverse ++ st) (hfr : fr' + 1 ≤ fr) (hnL : nL' ≤ 21) (hk : k + mc' ≤ mc) (hs : sl + ms' ≤ ms) (hst : (st.map fun v => v.category).sum ≤ 8) (hp : pc + 3 = t)
    (kk : ∀ (r : Option Value) (h1 : AH) (n1 : Nat), Q' r h1 n1 → EW l G y cc nL ret fr mc ms Q (k + mc') (sl + ms') h1 n1 t L (r.toList ++ st)) : EW l G y cc nL ret fr mc ms Q k sl h n pc L st0 := by
  subst hp hs0
  intro p e s m args below meth c C1 H locs ls hR hS hl
  refine W_run (va_runS (As := shs G As) (rest := shs G st) C1.1 hM (va_cwS As.length C1.1.2.2.2.2 hw rfl rfl rfl hna (rmW_ok hfr hnL)) ⟨PW_blind, PW_pre C1 hR hS⟩ rfl (shs_len As) hl.1 ?_ (lv_room (by rw [shs_cat]; exact hst)) hd ⟨hk, hs⟩) hS (fun r h1 n1 H1 locs1 hq hR1 hS1 => ?_)
  · show shs G (As.reverse ++ st) = _
    rw [shs_app, shs_rev]
  · rw [shs_ret]
    exact kk r h1 n1 hq p e s m args below meth c C1 H1 locs1 ls hR1 hS1 hl
theorem ew_callSN {host : String} (hM : AM l G y' cc' nL' ret' fr' mc' ms' As h n Q') (hw : Cond.methodLinkNest y.cls i y' host ∈ lw_tbl) (hw2 : Cond.static y' ∈ lw_all) (hw3 : Cond.initialized y'.cls ∈ lw_all) (hw4 : Cond.code y' cc' nL' ret' ∈ lw_all) (hna : nArg y' As.length) (hd : decode cc pc = .ok (.invokestatic i, 3)) (hs0 : st0 = As.reverse ++ st) (hfr : fr' + 1 ≤ fr) (hnL : nL' ≤ 21) (hk : k + mc' ≤ mc) (hs : sl + ms' ≤ ms) (hst : (st.map fun v => v.category).sum ≤ 8) (hp : pc + 3 = t)
    (kk : ∀ (r : Option Value) (h1 : AH) (n1 : Nat), Q' r h1 n1 → EW l G y cc nL ret fr mc ms Q (k + mc') (sl + ms') h1 n1 t L (r.toList ++ st)) : EW l G y cc nL ret fr mc ms Q k sl h n pc L st0 := by
  subst hp hs0
  intro p e s m args below meth c C1 H locs ls hR hS hl
  refine W_run (va_runSN (As := shs G As) (rest := shs G st) C1.1 hM ⟨va_cnB As.length C1.1.2.2.2.2 (lw_meth hw4) rfl rfl rfl (C1.2.2.2.2.2.1.1 _ hw rfl) (C1.1.2.2.2.2 _ hw3) hna (rmW_ok hfr hnL), C1.1.2.2.2.2 _ hw2, trivial⟩ ⟨PW_blind, PW_pre C1 hR hS⟩ rfl (shs_len As) hl.1 ?_ (lv_room (by rw [shs_cat]; exact hst)) hd ⟨hk, hs⟩) hS (fun r h1 n1 H1 locs1 hq hR1 hS1 => ?_)
  · show shs G (As.reverse ++ st) = _
    rw [shs_app, shs_rev]
  · rw [shs_ret]
    exact kk r h1 n1 hq p e s m args below meth c C1 H1 locs1 ls hR1 hS1 hl
theorem ew_callI (hM : AM l G y' cc' nL' none fr' mc' ms' (.ref a :: As) h n Q') (hw : Cond.methodLink y.cls i y' ∈ lw_all) (hw2 : Cond.instanceMethod y' ∈ lw_all) (hw3 : Cond.initialized y'.cls ∈ lw_all) (hw4 : Cond.code y' cc' nL' none ∈ lw_all) (hin : y'.name = "<init>") (hna : nArg y' As.length) (hd : decode cc pc = .ok (.invokespecial i, 3)) (hs0 : st0 = As.reverse ++ .ref a :: st) (hfr : fr' + 1 ≤ fr) (hnL : nL' ≤ 21) (hk : k + mc' ≤ mc) (hs : sl + ms' ≤ ms) (hst : (st.map fun v => v.category).sum ≤ 8) (hp : pc + 3 = t)
    (kk : ∀ (r : Option Value) (h1 : AH) (n1 : Nat), Q' r h1 n1 → EW l G y cc nL ret fr mc ms Q (k + mc') (sl + ms') h1 n1 t L (r.toList ++ st)) : EW l G y cc nL ret fr mc ms Q k sl h n pc L st0 := by
  subst hp hs0
  intro p e s m args below meth c C1 H locs ls hR hS hl
  refine W_run (va_runI (b := rho G a) (As := shs G As) (rest := shs G st) C1.1 hM (cwI As.length C1.1.2.2.2.2 (lw_meth hw4) rfl rfl rfl (C1.1.2.2.2.2 _ hw3) (C1.1.2.2.2.2 _ hw) (C1.1.2.2.2.2 _ hw2) hin hna (rmW_ok hfr hnL)) ⟨PW_blind, PW_pre C1 hR hS⟩ rfl (shs_len As) hl.1 ?_ (lv_room (by rw [shs_cat]; exact hst)) hd ⟨hk, hs⟩) hS (fun r h1 n1 H1 locs1 hq hR1 hS1 => ?_)
  · show shs G (As.reverse ++ .ref a :: st) = _
    rw [shs_app, shs_rev]; rfl
  · rw [shs_ret]
    exact kk r h1 n1 hq p e s m args below meth c C1 H1 locs1 ls hR1 hS1 hl
theorem ew_callIN {host : String} (hM : AM l G y' cc' nL' none fr' mc' ms' (.ref a :: As) h n Q') (hw : Cond.methodLinkNest y.cls i y' host ∈ lw_tbl) (hw2 : Cond.instanceMethod y' ∈ lw_all) (hw3 : Cond.initialized y'.cls ∈ lw_all) (hw4 : Cond.code y' cc' nL' none ∈ lw_all) (hin : y'.name = "<init>") (hna : nArg y' As.length) (hd : decode cc pc = .ok (.invokespecial i, 3)) (hs0 : st0 = As.reverse ++ .ref a :: st) (hfr : fr' + 1 ≤ fr) (hnL : nL' ≤ 21) (hk : k + mc' ≤ mc) (hs : sl + ms' ≤ ms) (hst : (st.map fun v => v.category).sum ≤ 8) (hp : pc + 3 = t)
    (kk : ∀ (r : Option Value) (h1 : AH) (n1 : Nat), Q' r h1 n1 → EW l G y cc nL ret fr mc ms Q (k + mc') (sl + ms') h1 n1 t L (r.toList ++ st)) : EW l G y cc nL ret fr mc ms Q k sl h n pc L st0 := by
  subst hp hs0
  intro p e s m args below meth c C1 H locs ls hR hS hl
  refine W_run (va_runIN (b := rho G a) (As := shs G As) (rest := shs G st) C1.1 hM ⟨va_cnB As.length C1.1.2.2.2.2 (lw_meth hw4) rfl rfl rfl (C1.2.2.2.2.2.1.1 _ hw rfl) (C1.1.2.2.2.2 _ hw3) hna (rmW_ok hfr hnL), hin, C1.1.2.2.2.2 _ hw2⟩ ⟨PW_blind, PW_pre C1 hR hS⟩ rfl (shs_len As) hl.1 ?_ (lv_room (by rw [shs_cat]; exact hst)) hd ⟨hk, hs⟩) hS (fun r h1 n1 H1 locs1 hq hR1 hS1 => ?_)
  · show shs G (As.reverse ++ .ref a :: st) = _
    rw [shs_app, shs_rev]; rfl
  · rw [shs_ret]
    exact kk r h1 n1 hq p e s m args below meth c C1 H1 locs1 ls hR1 hS1 hl
/-- a method that its superclass only declares -/
theorem ew_callU {ci N : Nat} {C owner : String} {T : u_T} {fs : List Value} {x : MethodName} (hM : AM l G y' cc' nL' ret' fr' mc' ms' (.ref a :: As) h n Q') (hcl : vwCl[ci]? = some (C, T, N)) (hh : h a = some (OB ci fs)) (hw : GoodIn lw_all (va_wsU y.cls i C owner x y' (ws_ y' cc' nL' ret'))) (hz : Cond.declares ⟨owner, x.name, x.desc⟩ ∈ lw_tbl) (hna : owner ≠ "java/lang/invoke/MethodHandle" ∧ owner ≠ "java/lang/invoke/VarHandle" ∧ (parseMethodDescriptor x.desc).map (fun d => d.parameters.length) = some As.length) (hd : decode cc pc = .ok (.invokevirtual i, 3)) (hs0 : st0 = As.reverse ++ .ref a :: st) (hfr : fr' + 1 ≤ fr) (hnL : nL' ≤ 21) (hk : k + mc' ≤ mc) (hs : sl + ms' ≤ ms) (hst : (st.map fun v => v.category).sum ≤ 8) (hp : pc + 3 = t)
    (kk : ∀ (r : Option Value) (h1 : AH) (n1 : Nat), Q' r h1 n1 → EW l G y cc nL ret fr mc ms Q (k + mc') (sl + ms') h1 n1 t L (r.toList ++ st)) : EW l G y cc nL ret fr mc ms Q k sl h n pc L st0 := by
  subst hp hs0
  intro p e s m args below meth c C1 H locs ls hR hS hl
  refine W_run (va_runU (b := rho G a) (As := shs G As) (rest := shs G st) C1.1 hM (va_cwA As.length C1.1.2.2.2.2 hw rfl rfl rfl (C1.2.2.2.2.2.1.1 _ hz rfl) hna (rmW_ok hfr hnL)) ⟨PW_blind, recv C1 hR hcl hh, PW_pre C1 hR hS⟩ rfl (shs_len As) hl.1 ?_ (lv_room (by rw [shs_cat]; exact hst)) hd ⟨hk, hs⟩) hS (fun r h1 n1 H1 locs1 hq hR1 hS1 => ?_)
  · show shs G (As.reverse ++ .ref a :: st) = _
    rw [shs_app, shs_rev]; rfl
  · rw [shs_ret]
    exact kk r h1 n1 hq p e s m args below meth c C1 H1 locs1 ls hR1 hS1 hl
/-- through an interface -/
theorem ew_callF {ci N ct : Nat} {C : String} {T : u_T} {fs : List Value} {x : MethodName} (hM : AM l G y' cc' nL' ret' fr' mc' ms' (.ref a :: As) h n Q') (hcl : vwCl[ci]? = some (C, T, N)) (hh : h a = some (OB ci fs)) (hw : GoodIn lw_all (va_wsF y.cls i C x y' (ws_ y' cc' nL' ret'))) (hz : (C, x, y') ∈ fwl) (hna : nArg x As.length) (hd : decode cc pc = .ok (.invokeinterface i ct, 5)) (hs0 : st0 = As.reverse ++ .ref a :: st) (hfr : fr' + 1 ≤ fr) (hnL : nL' ≤ 21) (hk : k + mc' ≤ mc) (hs : sl + ms' ≤ ms) (hst : (st.map fun v => v.category).sum ≤ 8) (hp : pc + 5 = t)
    (kk : ∀ (r : Option Value) (h1 : AH) (n1 : Nat), Q' r h1 n1 → EW l G y cc nL ret fr mc ms Q (k + mc') (sl + ms') h1 n1 t L (r.toList ++ st)) : EW l G y cc nL ret fr mc ms Q k sl h n pc L st0 := by
  subst hp hs0
  intro p e s m args below meth c C1 H locs ls hR hS hl
  refine W_run5 (va_runF (b := rho G a) (As := shs G As) (rest := shs G st) (C1.2.2.2.2.1.1 ci _ hcl).2 C1.1 hM (va_cwF As.length C1.1.2.2.2.2 hw rfl rfl rfl (C1.2.2.2.2.2.1.2.2.2.1 _ hz) hna (rmW_ok hfr hnL)) ⟨PW_blind, recv C1 hR hcl hh, PW_pre C1 hR hS⟩ rfl (shs_len As) hl.1 ?_ (lv_room (by rw [shs_cat]; exact hst)) hd ⟨hk, hs⟩) hS (fun r h1 n1 H1 locs1 hq hR1 hS1 => ?_)
  · show shs G (As.reverse ++ .ref a :: st) = _
    rw [shs_app, shs_rev]; rfl
  · rw [shs_ret]
    exact kk r h1 n1 hq p e s m args below meth c C1 H1 locs1 ls hR1 hS1 hl
end one
/-- Object's own constructor -/
theorem ew_objInit {i a : Nat} (hw : Cond.methodLink y.cls i Lib.objectInit ∈ lw_all) (hw2 : Cond.instanceMethod Lib.objectInit ∈ lw_all) (hw3 : Cond.code Lib.objectInit ⟨#[0xb1]⟩ 1 none ∈ lw_all) (hd : decode cc pc = .ok (.invokespecial i, 3)) (hfr : 1 ≤ fr) (hst : (st.map fun v => v.category).sum ≤ 8) (hp : pc + 3 = t)
    (kk : EW l G y cc nL ret fr mc ms Q k sl h n t L st) : EW l G y cc nL ret fr mc ms Q k sl h n pc L (.ref a :: st) := by
  subst hp
  intro p e s m args below meth c C1 H locs ls hR hS hl
  refine W.objInit C1.1.1 C1.1.2.1 C1.1.2.2.2.1 (C1.1.2.2.2.2 _ hw) (C1.1.2.2.2.2 _ hw2) (C1.1.2.2.2.2 _ hw3) rfl (by rw [C1.1.2.2.1]; exact hl.1) rfl hd hfr ?_ (kk p e s m args below meth c C1 H locs ls hR hS hl)
  show 2 * 0 + ((shs G st).map fun v => v.category).sum + 12 ≤ 40 * fr
  rw [shs_cat]
  omega
/-- answers that say all: an int, a long, nothing, a reference -/
def Qi (v : Int32) (h' : AH) (n' : Nat) : Option Value → AH → Nat → Prop := fun r a b => r = some (.int v) ∧ a = h' ∧ b = n'
def Ql (v : Int64) (h' : AH) (n' : Nat) : Option Value → AH → Nat → Prop := fun r a b => r = some (.long v) ∧ a = h' ∧ b = n'
def Qv (h' : AH) (n' : Nat) : Option Value → AH → Nat → Prop := fun r a b => r = none ∧ a = h' ∧ b = n'
def Qr (v : Nat) (h' : AH) (n' : Nat) : Option Value → AH → Nat → Prop := fun r a b => r = some (.ref v) ∧ a = h' ∧ b = n'
theorem qi {v : Int32} {h' : AH} {n' : Nat} (kk : EW l G y cc nL ret fr mc ms Q k sl h' n' t L (.int v :: st)) : ∀ (r : Option Value) (h1 : AH) (n1 : Nat), Qi v h' n' r h1 n1 → EW l G y cc nL ret fr mc ms Q k sl h1 n1 t L (r.toList ++ st) := by
  rintro r h1 n1 ⟨rfl, rfl, rfl⟩
  exact kk
theorem ql {v : Int64} {h' : AH} {n' : Nat} (kk : EW l G y cc nL ret fr mc ms Q k sl h' n' t L (.long v :: st)) : ∀ (r : Option Value) (h1 : AH) (n1 : Nat), Ql v h' n' r h1 n1 → EW l G y cc nL ret fr mc ms Q k sl h1 n1 t L (r.toList ++ st) := by
  rintro r h1 n1 ⟨rfl, rfl, rfl⟩
  exact kk
theorem qv {h' : AH} {n' : Nat} (kk : EW l G y cc nL ret fr mc ms Q k sl h' n' t L st) : ∀ (r : Option Value) (h1 : AH) (n1 : Nat), Qv h' n' r h1 n1 → EW l G y cc nL ret fr mc ms Q k sl h1 n1 t L (r.toList ++ st) := by
  rintro r h1 n1 ⟨rfl, rfl, rfl⟩
  exact kk
theorem qr {v : Nat} {h' : AH} {n' : Nat} (kk : EW l G y cc nL ret fr mc ms Q k sl h' n' t L (.ref v :: st)) : ∀ (r : Option Value) (h1 : AH) (n1 : Nat), Qr v h' n' r h1 n1 → EW l G y cc nL ret fr mc ms Q k sl h1 n1 t L (r.toList ++ st) := by
  rintro r h1 n1 ⟨rfl, rfl, rfl⟩
  exact kk
theorem EW.widen {k' sl' : Nat} (hk : k ≤ k') (hs : sl ≤ sl') (kk : EW l G y cc nL ret fr mc ms Q k' sl' h n pc L st) : EW l G y cc nL ret fr mc ms Q k sl h n pc L st := by
  intro p e s m args below meth c C1 H locs ls hR hS hl
  exact W.widen hk hs (kk p e s m args below meth c C1 H locs ls hR hS hl)
theorem EW.sub {L' : List (Option Value)} (hL : ∀ (i : Nat) (v : Value), L'[i]? = some (some v) → L[i]? = some (some v)) (kk : EW l G y cc nL ret fr mc ms Q k sl h n pc L' st) : EW l G y cc nL ret fr mc ms Q k sl h n pc L st := by
  intro p e s m args below meth c C1 H locs ls hR hS hl
  exact kk p e s m args below meth c C1 H locs ls hR hS ⟨hl.1, hl.2.1, fun i v hi => hl.2.2 i v (hL i v hi)⟩
end EWC
