/-! methods with handlers: their contracts, their calls -/
set_option maxRecDepth 100000
def AMW (l : Launch) (G : GW) (y : MethodName) (cc : ByteArray) (nL : Nat) (ret : Option FieldType) (fr mc ms : Nat) (as : List Value) (h : AH) (n : Nat) (Q : Option Value → AH → Nat → Prop) : Prop :=
  Met l y (wsW_ y cc nL ret (hdl y)) (rmW fr mc ms) (PW G as h n) (QW G Q) mc ms (gW G)
theorem AMW.of {l : Launch} {G : GW} {y : MethodName} {cc : ByteArray} {nL : Nat} {ret : Option FieldType} {fr mc ms : Nat} {as : List Value} {h : AH} {n : Nat} {Q : Option Value → AH → Nat → Prop} {L : List (Option Value)} (hy : plainName y.cls = true) (hlen : (lg_sl (shs G as)).length ≤ nL) (hL : padL nL (lvA as) = L)
    (kk : EW l G y cc nL ret fr mc ms Q 0 0 h n 0 L []) (hx : thr y = false := by decide +kernel) : AMW l G y cc nL ret fr mc ms as h n Q := by
  refine va_MetW (hh := hdl y) (cc := cc) (maxL := nL) (ret := ret) hy rfl ?_
  intro p e s m args below meth c s₁ B hml hv
  obtain ⟨rfl, hR, hK, hX⟩ := hv
  have hts := atoms_spec (ws := wsW_ y cc nL ret (hdl y)) B.pre
  obtain ⟨m9, meth9, c9, r1, r2, r3, -, -, r6, -⟩ := Cond.codeWith_spec (hts _ List.mem_cons_self)
  cases B.named.symm.trans r1
  cases B.method.symm.trans r2
  cases (Stand.of_body B).code.symm.trans r3
  have hts : ∀ w ∈ lw_all, w.before _ s = true := fun w h => hts w (List.mem_cons_of_mem _ h)
  have hown : s.vm.findClass y.cls = some m.cls := findClass_of_methodNamed B.named
  have hl := lv_entry (shs G as) (n := nL) hlen
  rw [lg_entry_eq]
  refine W_mono (fun t ht => MQE.ret hx ht) (kk p e s m _ below meth c ⟨⟨B.exec, B.bytes, hml, hown, hts⟩, B.returns, B.notSynchronized, (name_of_methodNamed B.named B.method).1, hK, hX, ?_, r6⟩ s.heap [] _ hR va_S.rf ⟨hl.1, hl.2.1, fun i v hi => ?_⟩)
  · rw [hR.1]; have := hR.2.1; omega
  · rw [← hL] at hi
    have hm := lvA_mem (G := G) as 0 i v (padL_get hi)
    rw [Nat.zero_add] at hm
    exact hl.2.2 _ hm
section EWW
variable {l : Launch} {G : GW} {y : MethodName} {cc : ByteArray} {nL : Nat} {ret : Option FieldType} {fr mc ms : Nat} {Q : Option Value → AH → Nat → Prop} {k sl : Nat} {h : AH} {n pc t : Nat} {L : List (Option Value)} {st st0 : List Value}
theorem ew_callVW {y' : MethodName} {cc' : ByteArray} {nL' fr' mc' ms' i a : Nat} {ret' : Option FieldType} {As : List Value} {Q' : Option Value → AH → Nat → Prop} {ci N : Nat} {C : String} {T : u_T} {fs : List Value} (hM : AMW l G y' cc' nL' ret' fr' mc' ms' (.ref a :: As) h n Q') (hcl : vwCl[ci]? = some (C, T, N)) (hh : h a = some (OB ci fs)) (hw : GoodIn lw_all (wsV y.cls i C y' (wsW_ y' cc' nL' ret' (hdl y')))) (hC : y'.cls = C) (hna : nArg y' As.length) (hd : decode cc pc = .ok (.invokevirtual i, 3)) (hs0 : st0 = As.reverse ++ .ref a :: st) (hfr : fr' + 1 ≤ fr) (hnL : nL' ≤ 21) (hk : k + mc' ≤ mc) (hs : sl + ms' ≤ ms) (hst : (st.map fun v => v.category).sum ≤ 8) (hp : pc + 3 = t)
    (kk : ∀ (r : Option Value) (h1 : AH) (n1 : Nat), Q' r h1 n1 → EW l G y cc nL ret fr mc ms Q (k + mc') (sl + ms') h1 n1 t L (r.toList ++ st)) : EW l G y cc nL ret fr mc ms Q k sl h n pc L st0 := by
  subst hp hs0
  intro p e s m args below meth c C1 H locs ls hR hS hl
  refine W_run (a := (Value.ref (rho G a) :: shs G As).toArray) (mc' := mc') (ms' := ms') (rest := shs G st) (Q' := Q') ?_ hS (fun r h1 n1 H1 locs1 hq hR1 hS1 => ?_)
  · intro T0 hT X
    have hwd : ∀ w ∈ wsV y.cls i C y' (wsW_ y' cc' nL' ret' (hdl y')), ∀ (a' : Array Value) (U : State), s.WarmedH U.vm → w.before a' U = true := pay_in C1.1.2.2.2.2 hw
    have hnow : ∀ w ∈ wsV y.cls i C y' (wsW_ y' cc' nL' ret' (hdl y')), w.before args s = true := fun w h => hwd w h args s (State.WarmedH.refl s)
    have hlink : (Cond.methodLink y.cls i y').before args s = true := hnow _ (by simp [wsV])
    have hinst : (Cond.instanceMethod y').before args s = true := hnow _ (by simp [wsV])
    have hsel : (Cond.selects C y' y').before args s = true := hnow _ (by simp [wsV])
    have hcode : (Cond.codeWith y' cc' nL' ret' (hdl y')).before args s = true := hnow _ (by simp [wsV])
    obtain ⟨cellB, hcB, hoB, hclB⟩ := recv C1 hR hcl hh
    obtain ⟨mk, methM, hnamed, hmethM, hstM, habM⟩ := Cond.instanceMethod_spec hinst
    obtain ⟨m9, methM', cM, hn9, hmethM', -, -, -, -, -, -, hsigM⟩ := Cond.codeWith_spec hcode
    cases hnamed.symm.trans hn9
    cases hmethM.symm.trans hmethM'
    obtain ⟨c2, r2, m2, q1, q2, q3, q4, kP, hkP, hkPi⟩ := Cond.selects_spec hsel
    cases hclB.symm.trans q1
    cases (State.methodFound?_of_named hnamed ⟨hna.1, hna.2.1⟩).symm.trans q2
    cases hnamed.symm.trans q3
    have hselP : selectMethod e.platform s.vm cellB.cls mk = .method mk := by rw [Launch.admits_selectMethod X.admits]; exact q4
    have hlen : (shs G As).length = methM.sig.parameters.length := by
      rw [shs_len]
      have h2 := hna.2.2
      rw [hsigM] at h2
      exact (Option.some.inj h2).symm
    have hK : Back l (rmW fr mc ms) p e below s args y' 3 8 (PreOf (rmW fr mc ms) mc' ms' (PW G (.ref a :: As) h n)) (PostOf (QW G Q') mc' ms' (gW G)) :=
      va_backW (hh := hdl y') (bytes := cc') (maxL := nL') (ret := ret') hM PW_blind rfl rfl (rmW_ok hfr hnL).1 (rmW_ok hfr hnL).2 (fun w hw' => hwd w (by unfold wsV; exact List.mem_append_right _ hw')) List.mem_cons_self (fun a' U hW => by rw [hC]; exact hwd (.initialized C) (by simp [wsV]) a' U hW)
    obtain ⟨vm₁, X₁, hstep₁⟩ := X.invokevirtual C1.1.1 C1.1.2.2.2.1 hlink hnamed hmethM hstM hkP hkPi ⟨hna.1, hna.2.1⟩ (a := rho G a) (cell := cellB) (by rw [hT]; exact hcB)
      (fun z h => by rw [h] at hoB; cases hoB) hselP hmethM habM hkP hkPi (g := F0 m pc ls (shs G (As.reverse ++ .ref a :: st))) rfl (argsL := shs G As) (rest := shs G st) hlen (by
        show shs G (As.reverse ++ .ref a :: st) = _
        rw [shs_app, shs_rev]; rfl) (by rw [C1.1.2.1]; exact hd)
    obtain ⟨v, ⟨U', l2, c2', s2⟩, X', ⟨g', mk', t, L2, e1, e2, hq, h1, hL, h2, h3⟩, hsteps⟩ := hK m meth c ⟨T0.setVm vm₁, locs, k, sl⟩ (F0 m pc ls (shs G st)) (.invokevirtual i) mk (Value.ref (rho G a) :: shs G As).toArray X₁ rfl (by rw [C1.1.2.2.1]; exact hl.1) (by rw [C1.1.2.1]; exact hd) (lv_room (by rw [shs_cat]; exact hst)) (X₁.named hnamed)
      ⟨hk, hs, PW_pre (as := .ref a :: As) C1 hR hS (T0.setVm vm₁) hT X₁.warmed⟩
    dsimp only [Pt.U, Pt.locs, Pt.cells, Pt.slots] at X' e1 e2 h1 h2 h3 hsteps
    subst h1; subst h2; subst h3
    exact ⟨v, (T0.setVm vm₁).calling g' mk' (Value.ref (rho G a) :: shs G As).toArray, t, U', L2, hT, X', hL, e1, e2, hq, fun target h => hstep₁ _ fun acts => by rw [doInvoke_state]; exact hsteps.trans h⟩
  · rw [shs_ret]
    exact kk r h1 n1 hq p e s m args below meth c C1 H1 locs1 ls hR1 hS1 hl
end EWW
