-- Obj fields dict_keys(['cls', 'fun', 'sname', 'refs', 'extra', 'ups'])
/-! the component: drag, piece, clear -/
set_option maxRecDepth 100000
/-- the list at c, with its array -/
def LSe (h : AH) (n c ci np : Nat) (O : Nat → List Value) (mo : Int32) (e : Nat) : Prop := np ≤ 4 ∧ h c = some (OB 12 [.int mo, .ref e, .int (nI np)]) ∧ ((e = 0 ∧ np = 0) ∨ (63 ≤ e ∧ e < n ∧ ∃ f, h e = some (RA 10 f) ∧ ∀ j, j < np → ∃ p, f j = some p ∧ 63 ≤ p ∧ p < n ∧ h p = some (OB ci (O j))))
theorem LSe.x {h : AH} {n c ci np : Nat} {O : Nat → List Value} {mo : Int32} {e : Nat} (ls : LSe h n c ci np O mo e) : LSx h n c ci np O := ⟨ls.1, mo, e, ls.2.1, ls.2.2⟩
/-- an answer, and the list now; all else stays -/
def XLQ (h : AH) (n c ci e ix : Nat) (O : (Nat → Nat → Int32) → Nat → List Value) (p : OR) : Option Value → AH → Nat → Prop := fun r h' n' => r = some (.int p.1) ∧ n ≤ n' ∧ (∃ np' mo' e', p.2.1 ix = nI np' ∧ LSe h' n' c ci np' (O p.2.2) mo' e' ∧ (e' = e ∨ n ≤ e')) ∧ (∀ k, k < n → ¬ k = c → ¬ (k = e ∧ 63 ≤ e) → h' k = h k)
theorem XLQ.same {h : AH} {n c ci e ix np : Nat} {O : (Nat → Nat → Int32) → Nat → List Value} {v mo : Int32} {sm : Nat → Int32} {F : Nat → Nat → Int32} (ls : LSe h n c ci np (O F) mo e) (hs : sm ix = nI np) : XLQ h n c ci e ix O (v, sm, F) (some (.int v)) h n :=
  ⟨rfl, Nat.le_refl _, ⟨np, mo, e, hs, ls, Or.inl rfl⟩, fun _ _ _ _ => rfl⟩
/-- the list behind add: the first time -/
theorem XLQ.add0 {h : AH} {n c ci ix : Nat} {O : (Nat → Nat → Int32) → Nat → List Value} {v mo : Int32} {sm : Nat → Int32} {F : Nat → Nat → Int32} {vs : List Value} (hn : 63 ≤ n) (hc : c < 63) (hs : sm ix = nI 1) (hO : O F 0 = vs) : XLQ h n c ci 0 ix O (v, sm, F) (some (.int v)) (hov (hov h [(n, OB ci vs)]) [(n + 1, RA 10 (va_up (fun _ => none) 0 (some n))), (c, OB 12 [.int (mo + 1), .ref (n + 1), .int 1])]) (n + 1 + 1) := by
  refine ⟨rfl, by omega, ⟨1, mo + 1, n + 1, hs, ⟨by omega, (hv_miss (by omega)).trans hv_hit, Or.inr ⟨by omega, by omega, _, hv_hit, fun j hj => ⟨n, ?_, hn, by omega, ?_⟩⟩⟩, Or.inr (by omega)⟩, fun k h1 h2 h3 => ?_⟩
  · rw [show j = 0 by omega]; rfl
  · rw [show j = 0 by omega, hO]; exact (hv_miss (by omega)).trans ((hv_miss (by omega)).trans hv_hit)
  · exact (hv_miss (by omega)).trans ((hv_miss (by omega)).trans (hv_miss (by omega)))
theorem XLQ.add1 {h : AH} {n c ci ix np e : Nat} {O : (Nat → Nat → Int32) → Nat → List Value} {v mo : Int32} {sm : Nat → Int32} {F F0 : Nat → Nat → Int32} {vs : List Value} {f : Nat → Option Nat} (hn : 63 ≤ n) (hc : c < 63) (h3 : np < 4) (he1 : 63 ≤ e) (he2 : e < n) (xe : h e = some (RA 10 f)) (hf : ∀ j, j < np → ∃ p, f j = some p ∧ 63 ≤ p ∧ p < n ∧ h p = some (OB ci (O F0 j))) (hs : sm ix = nI (np + 1)) (hO : O F np = vs) (hO2 : ∀ j, j < np → O F j = O F0 j) : XLQ h n c ci e ix O (v, sm, F) (some (.int v)) (hov (hov h [(n, OB ci vs)]) [(e, RA 10 (va_up f np (some n))), (c, OB 12 [.int (mo + 1), .ref e, .int (nI (np + 1))])]) (n + 1) := by
  refine ⟨rfl, by omega, ⟨np + 1, mo + 1, e, hs, ⟨by omega, (hv_miss (by omega)).trans hv_hit, Or.inr ⟨he1, by omega, _, hv_hit, fun j hj => ?_⟩⟩, Or.inl rfl⟩, fun k h1 h2 h3 => ?_⟩
  · by_cases q : j = np
    · subst q
      refine ⟨n, if_pos rfl, hn, by omega, ?_⟩
      rw [hO]; exact (hv_miss (by omega)).trans ((hv_miss (by omega)).trans hv_hit)
    · obtain ⟨p, p1, p2, p3, p4⟩ := hf j (by omega)
      refine ⟨p, (if_neg q).trans p1, p2, by omega, ?_⟩
      rw [hO2 j (by omega)]
      have hpe : ¬ p = e := fun z => by rw [z, xe] at p4; cases p4
      exact (hv_miss (by omega)).trans ((hv_miss (by omega)).trans ((hv_miss (by omega)).trans p4))
  · exact (hv_miss (by omega)).trans ((hv_miss (by omega)).trans (hv_miss (by omega)))
set_option maxHeartbeats 600000 in
theorem ax_i10 {l : Launch} {G : GW} {h : AH} {n : Nat} {c : Nat} {x z : Int32} (xc : h c = some (OB 9 [.int 0, .int 0])) : AM l G yX10_init cX10_init 3 none 1 0 0 [.ref c, .int x, .int z] h n (Qv (hov h [(c, OB 9 [.int x, .int z])]) n) := by
  refine AM.of (L := [some (.ref c), some (.int x), some (.int z)]) (by decide) (Nat.le_of_ble_eq_true rfl) rfl ?_
  refine ew_aload_n (t := 1) dX10_init_0 rfl rfl rfl ?_
  refine ew_objInit (t := 4) q707 q89 q90 dX10_init_1 (by decide) (by decide) rfl ?_
  refine ew_aload_n (t := 5) dX10_init_4 rfl rfl rfl ?_
  refine ew_iload_n (t := 6) dX10_init_5 rfl rfl rfl ?_
  refine ew_putF (t := 9) (j := 0) (fs' := [.int x, .int 0]) (h' := (hov h [(c, OB 9 [.int x, .int 0])])) fcX10 xc (Nat.le_of_ble_eq_true rfl) rfl rfl rfl q708 rfl rfl (Nat.le_of_ble_eq_true rfl) rfl dX10_init_6 hov_up0 rfl ?_
  refine ew_aload_n (t := 10) dX10_init_9 rfl rfl rfl ?_
  refine ew_iload_n (t := 11) dX10_init_10 rfl rfl rfl ?_
  refine ew_putF (t := 14) (j := 1) (fs' := [.int x, .int z]) (h' := (hov h [(c, OB 9 [.int x, .int z])])) fcX10 hv_hit (Nat.le_of_ble_eq_true rfl) rfl rfl rfl q710 rfl rfl (Nat.le_of_ble_eq_true rfl) rfl dX10_init_11 hov_set_hit rfl ?_
  exact ew_vret rfl dX10_init_14 (Nat.le_refl _) (Nat.le_refl _) ⟨rfl, rfl, rfl⟩
theorem hov_ov1 {h : AH} {a : Nat} {x y : AC} : hov (hov h [(a, x)]) [(a, y)] = hov h [(a, y)] := by
  funext k
  by_cases e : k = a
  · subst e; exact hv_hit.trans hv_hit.symm
  · exact (hv_miss e).trans ((hv_miss e).trans (hv_miss e).symm)
theorem drO_1 {F : Nat → Nat → Int32} {nd : Nat} {c v : Int32} : drO (va_up (va_up F 54 (upd (F 54) nd v)) 53 (upd (F 53) nd c)) nd = [.int c, .int v] := by
  show [Value.int (upd (F 53) nd c nd), Value.int (upd (F 54) nd v nd)] = _
  rw [pk_us, pk_us]
theorem drO_2 {F : Nat → Nat → Int32} {nd j : Nat} {c v : Int32} (hj : j < nd) : drO (va_up (va_up F 54 (upd (F 54) nd v)) 53 (upd (F 53) nd c)) j = drO F j := by
  show [Value.int (upd (F 53) nd c j), Value.int (upd (F 54) nd v j)] = _
  rw [pk_un (by omega), pk_un (by omega)]; rfl
set_option maxHeartbeats 600000 in
theorem xc_drag {l : Launch} {G : GW} {h : AH} {n : Nat} {s sm : Nat → Int32} {F : Nat → Nat → Int32} {nd e : Nat} {mo : Int32} (hn : 63 ≤ n) (x1 : h 1 = some (XO s)) (xt : XT F h) (ls : LSe h n 10 9 nd (drO F) mo e) (hs : sm 27 = nI nd) (c v : Int32) : AM l G yX0_drag cX0_drag 3 (some .int) 6 2 12 [.ref 1, .int c, .int v] h n (XLQ h n 10 9 e 27 drO (drgP sm F nd c v)) := by
  refine AM.of (L := [some (.ref 1), some (.int c), some (.int v)]) (by decide) (Nat.le_of_ble_eq_true rfl) rfl ?_
  have hsz : ∀ (l : Launch) (G : GW) (n' : Nat), AM l G yJ2_size cJ2_size 1 (some .int) 0 0 0 [.ref 10] h n' (Qi (nI nd) h n') := fun l G n' => al_size ls.2.1
  refine ew_iload_n (t := 1) dX0_drag_0 rfl rfl rfl ?_
  refine ew_callS (t := 4) (As := [_]) (ax_isCell  _) (lw_S q333 q334 q51 q335) naX0_isCell dX0_drag_1 rfl (Nat.le_of_ble_eq_true rfl) (Nat.le_of_ble_eq_true rfl) (by omega) (by omega) (Nat.le_of_ble_eq_true rfl) rfl (qi ?_)
  refine ew_if_eq (t := 17) (t2 := 7) dX0_drag_4 rfl rfl (fun c_4 => ?_) (fun c_4 => ?_)
  · refine ew_icm1 (t := 18) dX0_drag_17 rfl ?_
    exact ew_iret rfl dX0_drag_18 (by decide) (by decide) (by rw [show drgP sm F nd c v = (-1, sm, F) from by unfold drgP; rw [if_pos c_4]]; exact XLQ.same ls hs)
  · refine ew_iload_n (t := 8) dX0_drag_7 rfl rfl rfl ?_
    refine ew_ic1 (t := 9) dX0_drag_8 rfl ?_
    refine ew_bipush (t := 11) (v := 7) dX0_drag_9 (by decide) rfl ?_
    refine ew_callS (t := 14) (As := [_, _, _]) (ax_isIn _ _ _) (lw_S q330 q331 q51 q332) naX0_isIn dX0_drag_11 rfl (Nat.le_of_ble_eq_true rfl) (Nat.le_of_ble_eq_true rfl) (by omega) (by omega) (Nat.le_of_ble_eq_true rfl) rfl (qi ?_)
    refine ew_if_ne (t := 19) (t2 := 17) dX0_drag_14 rfl rfl (fun c_14 => ?_) (fun c_14 => ?_)
    · refine ew_aload_n (t := 20) dX0_drag_19 rfl rfl rfl ?_
      refine ew_get (t := 23) (j := 0) (v := .ref 2) fcX0 x1 (Nat.le_of_ble_eq_true rfl) q255 rfl dX0_drag_20 rfl ?_
      refine ew_getN (t := 26) (j := 7) (v := .ref 10) fcX1 xt.1 (Nat.le_of_ble_eq_true rfl) q142 rfl dX0_drag_23 rfl ?_
      refine ew_callF (t := 31) (As := []) (hsz l G n) (fcJ2).1 ls.2.1 (lw_F q557 q561 q563 q55 q565) fw_size naI_J2_size dX0_drag_26 rfl (Nat.le_of_ble_eq_true rfl) (Nat.le_of_ble_eq_true rfl) (by omega) (by omega) (Nat.le_of_ble_eq_true rfl) rfl (qi ?_)
      refine ew_ic4 (t := 32) dX0_drag_31 rfl ?_
      refine ew_icmp_ne (t := 38) (t2 := 35) dX0_drag_32 rfl rfl (fun c_32 => ?_) (fun c_32 => ?_)
      · refine ew_aload_n (t := 39) dX0_drag_38 rfl rfl rfl ?_
        refine ew_get (t := 42) (j := 0) (v := .ref 2) fcX0 x1 (Nat.le_of_ble_eq_true rfl) q255 rfl dX0_drag_39 rfl ?_
        refine ew_getN (t := 45) (j := 7) (v := .ref 10) fcX1 xt.1 (Nat.le_of_ble_eq_true rfl) q142 rfl dX0_drag_42 rfl ?_
        refine ew_new (t := 48) (fs := [.int 0, .int 0]) (h' := (hov h [(n, OB 9 [.int 0, .int 0])])) fcX10 dX0_drag_45 q702 q703 q72 (by decide) (by decide) rfl hov_up0 rfl ?_
        refine ew_dup (t := 49) dX0_drag_48 rfl rfl ?_
        refine ew_iload_n (t := 50) dX0_drag_49 rfl rfl rfl ?_
        refine ew_iload_n (t := 51) dX0_drag_50 rfl rfl rfl ?_
        refine ew_callI (t := 54) (As := [_, _]) (ax_i10 (h := (hov h [(n, OB 9 [.int 0, .int 0])])) (n := n + 1) (c := n) hv_hit) q704 q705 q72 q706 rfl naX10_init dX0_drag_51 rfl (Nat.le_of_ble_eq_true rfl) (Nat.le_of_ble_eq_true rfl) (by omega) (by omega) (Nat.le_of_ble_eq_true rfl) rfl (qv ?_)
        refine EW.heap (h' := (hov h [(n, OB 9 [.int c, .int v])])) hov_ov1 ?_
        have hnd4 : nd < 4 := by have := ls.1; have : nd ≠ 4 := fun q => c_32 (by rw [q]; rfl); omega
        rcases ls.2.2 with ⟨e0, n0⟩ | ⟨he1, he2, f, xe, hf⟩
        · subst e0
          subst n0
          refine ew_callF (t := 59) (As := [_]) (al_add0 (h := (hov h [(n, OB 9 [.int c, .int v])])) (n := n + 1) (c := 10) (p := n) (by omega) (by omega) ((hv_miss (by omega)).trans ls.2.1) (fcX10).1 q1423 hv_hit (by omega) (by omega)) (fcJ2).1 ((hv_miss (by omega)).trans ls.2.1) (lw_F q589 q592 q594 q55 q596) fw_add naI_J2_add dX0_drag_54 rfl (Nat.le_of_ble_eq_true rfl) (Nat.le_of_ble_eq_true rfl) (by omega) (by omega) (Nat.le_of_ble_eq_true rfl) rfl (qi ?_)
          refine ew_pop (t := 60) dX0_drag_59 rfl rfl ?_
          refine ew_aload_n (t := 61) dX0_drag_60 rfl rfl rfl ?_
          refine ew_get (t := 64) (j := 0) (v := .ref 2) fcX0 ((hv_miss (by omega)).trans ((hv_miss (by omega)).trans ((hv_miss (by omega)).trans x1))) (Nat.le_of_ble_eq_true rfl) q255 rfl dX0_drag_61 rfl ?_
          refine ew_getN (t := 67) (j := 7) (v := .ref 10) fcX1 ((hv_miss (by omega)).trans ((hv_miss (by omega)).trans ((hv_miss (by omega)).trans xt.1))) (Nat.le_of_ble_eq_true rfl) q142 rfl dX0_drag_64 rfl ?_
          refine ew_callF (t := 72) (As := []) (al_size ((hv_miss (by omega)).trans hv_hit)) (fcJ2).1 ((hv_miss (by omega)).trans hv_hit) (lw_F q557 q561 q563 q55 q565) fw_size naI_J2_size dX0_drag_67 rfl (Nat.le_of_ble_eq_true rfl) (Nat.le_of_ble_eq_true rfl) (by omega) (by omega) (Nat.le_of_ble_eq_true rfl) rfl (qi ?_)
          refine ew_ic1 (t := 73) dX0_drag_72 rfl ?_
          refine ew_isub (t := 74) dX0_drag_73 rfl ?_
          exact ew_iret rfl dX0_drag_74 (by decide) (by decide) (by rw [show drgP sm F 0 c v = (nI 0, upd sm 27 (nI (0 + 1)), va_up (va_up F 54 (upd (F 54) 0 v)) 53 (upd (F 53) 0 c)) from by unfold drgP; rw [if_neg c_4, show inL v.toInt64 1 7 = inI v 1 7 from inL_I v 1 7, if_pos c_14, if_pos c_32]]; exact XLQ.add0 hn (by omega) rfl rfl)
        · refine ew_callF (t := 59) (As := [_]) (al_add1 (h := (hov h [(n, OB 9 [.int c, .int v])])) (n := n + 1) (c := 10) (p := n) (by omega) (by omega) ((hv_miss (by omega)).trans ls.2.1) ((hv_miss (by omega)).trans xe) (fcX10).1 q1423 hv_hit (by omega) (by omega)) (fcJ2).1 ((hv_miss (by omega)).trans ls.2.1) (lw_F q589 q592 q594 q55 q596) fw_add naI_J2_add dX0_drag_54 rfl (Nat.le_of_ble_eq_true rfl) (Nat.le_of_ble_eq_true rfl) (by omega) (by omega) (Nat.le_of_ble_eq_true rfl) rfl (qi ?_)
          refine ew_pop (t := 60) dX0_drag_59 rfl rfl ?_
          refine ew_aload_n (t := 61) dX0_drag_60 rfl rfl rfl ?_
          refine ew_get (t := 64) (j := 0) (v := .ref 2) fcX0 ((hv_miss (by omega)).trans ((hv_miss (by omega)).trans ((hv_miss (by omega)).trans x1))) (Nat.le_of_ble_eq_true rfl) q255 rfl dX0_drag_61 rfl ?_
          refine ew_getN (t := 67) (j := 7) (v := .ref 10) fcX1 ((hv_miss (by omega)).trans ((hv_miss (by omega)).trans ((hv_miss (by omega)).trans xt.1))) (Nat.le_of_ble_eq_true rfl) q142 rfl dX0_drag_64 rfl ?_
          refine ew_callF (t := 72) (As := []) (al_size ((hv_miss (by omega)).trans hv_hit)) (fcJ2).1 ((hv_miss (by omega)).trans hv_hit) (lw_F q557 q561 q563 q55 q565) fw_size naI_J2_size dX0_drag_67 rfl (Nat.le_of_ble_eq_true rfl) (Nat.le_of_ble_eq_true rfl) (by omega) (by omega) (Nat.le_of_ble_eq_true rfl) rfl (qi ?_)
          refine ew_ic1 (t := 73) dX0_drag_72 rfl ?_
          refine ew_isub (t := 74) dX0_drag_73 rfl ?_
          exact ew_iret rfl dX0_drag_74 (by decide) (by decide) (by rw [show drgP sm F nd c v = (nI nd, upd sm 27 (nI (nd + 1)), va_up (va_up F 54 (upd (F 54) nd v)) 53 (upd (F 53) nd c)) from by unfold drgP; rw [if_neg c_4, show inL v.toInt64 1 7 = inI v 1 7 from inL_I v 1 7, if_pos c_14, if_pos c_32], nI_m1]; exact XLQ.add1 (F0 := F) hn (by omega) hnd4 he1 he2 xe hf rfl (drO_1) (fun j hj => drO_2 hj))
      · refine ew_bipush (t := 37) (v := (-3)) dX0_drag_35 (by decide) rfl ?_
        exact ew_iret rfl dX0_drag_37 (by decide) (by decide) (by rw [show drgP sm F nd c v = (-3, sm, F) from by unfold drgP; rw [if_neg c_4, show inL v.toInt64 1 7 = inI v 1 7 from inL_I v 1 7, if_pos c_14, if_neg (not_not_intro c_32)]]; exact XLQ.same ls hs)
    · refine ew_icm1 (t := 18) dX0_drag_17 rfl ?_
      exact ew_iret rfl dX0_drag_18 (by decide) (by decide) (by rw [show drgP sm F nd c v = (-1, sm, F) from by unfold drgP; rw [if_neg c_4, show inL v.toInt64 1 7 = inI v 1 7 from inL_I v 1 7, if_neg (not_not_intro c_14)]]; exact XLQ.same ls hs)
