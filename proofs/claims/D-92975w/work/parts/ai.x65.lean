-- Obj fields dict_keys(['cls', 'fun', 'sname', 'refs', 'extra', 'ups'])
/-! constructors: Throwable's, Exception's, Fault's, ArrayList's, Sheet's -/
set_option maxRecDepth 100000
section EWU
variable {l : Launch} {G : GW} {y : MethodName} {cc : ByteArray} {nL : Nat} {ret : Option FieldType} {fr mc ms : Nat} {Q : Option Value → AH → Nat → Prop} {k sl : Nat} {h : AH} {n pc t : Nat} {L : List (Option Value)} {st : List Value}
theorem ew_getsU1 {i : Nat} (hw : Cond.fieldLink y.cls i "java/lang/Throwable" "UNASSIGNED_STACK" "[Ljava/lang/StackTraceElement;" ∈ lw_all) (hd : decode cc pc = .ok (.getstatic i, 3)) (hp : pc + 3 = t) (kk : EW l G y cc nL ret fr mc ms Q k sl h n t L (.retAddr 1 :: st)) : EW l G y cc nL ret fr mc ms Q k sl h n pc L st := by
  subst hp
  intro p e s m args below meth c C1 H locs ls hR hS hl
  exact va_gets C1.1.1 C1.1.2.1 C1.2.2.2.2.2.1.2.2.2.2.2.2.2.1 hS C1.1.2.2.2.1 (C1.1.2.2.2.2 _ hw) (fun x hx => hx) hd (kk p e s m args below meth c C1 H locs ls hR hS hl)
theorem ew_getsU2 {i : Nat} (hw : Cond.fieldLink y.cls i "java/lang/Throwable" "SUPPRESSED_SENTINEL" "Ljava/util/List;" ∈ lw_all) (hd : decode cc pc = .ok (.getstatic i, 3)) (hp : pc + 3 = t) (kk : EW l G y cc nL ret fr mc ms Q k sl h n t L (.retAddr 2 :: st)) : EW l G y cc nL ret fr mc ms Q k sl h n pc L st := by
  subst hp
  intro p e s m args below meth c C1 H locs ls hR hS hl
  exact va_gets C1.1.1 C1.1.2.1 C1.2.2.2.2.2.1.2.2.2.2.2.2.2.2.1 hS C1.1.2.2.2.1 (C1.1.2.2.2.2 _ hw) (fun x hx => hx) hd (kk p e s m args below meth c C1 H locs ls hR hS hl)
theorem ew_putU {ci a N j i x : Nat} {C : String} {T : u_T} {ty : Nat → FieldType} {fs fs' : List Value} {h' : AH} (F : FC ci C T N ty) (hh : h a = some (OB ci fs)) (hj : j < N) (hfin : (T j).2.2.2 = false) (hw : Cond.fieldLink y.cls i (T j).1 (T j).2.1 (T j).2.2.1 ∈ lw_all) (hfit : ∀ r : Option Nat, fits (ty j) (va_rf r) = true) (hl : j < fs.length) (hfs : fs.set j (.retAddr (x + 1)) = fs') (hd : decode cc pc = .ok (.putfield i, 3)) (hu : va_up h a (some (OB ci fs')) = h') (hp : pc + 3 = t)
    (kk : EW l G y cc nL ret fr mc ms Q k sl h' n t L st) : EW l G y cc nL ret fr mc ms Q k sl h n pc L (.retAddr (x + 1) :: .ref a :: st) := by
  subst hp hfs hu
  intro p e s m args below meth c C1 H locs ls hR hS hlv
  have hap := va_apart (own := C) C1.1.2.2.2.2 F.2.1 ty F.2.2.1 F.2.2.2 C1.2.2.2.2.1 F.1
  obtain ⟨r, h1, cell, q1, q2, q3, q4⟩ := hR.2.2.2 a _ hh
  have hr : r = (C, T, N) := Option.some.inj (h1.symm.trans F.1)
  subst hr
  obtain ⟨hSl, hfc, kC, hkC, hkind⟩ := C1.2.2.2.2.1.1 ci _ F.1
  obtain ⟨cf, kf, fi, f, hi, hsl⟩ := hSl j hj
  have hlay := C1.1.2.2.2.2 _ (F.2.1 _ (u_in_lay hj))
  unfold u_lay at hlay
  rw [if_neg (by rw [hfin]; decide)] at hlay
  have hst := (u_facts hfc hkC (u_lays C1.1.2.2.2.2 F.2.1 hj) hi).1
  have h6 := u_store (v := shv G (.retAddr (x + 1))) hfc hkC hkind hlay hi (F.2.2.1 j hj) (rf_nar _) (hfit _)
  refine W.putK C1.1.1 C1.1.2.1 (f := f) ⟨C1.1.2.2.2.1, C1.1.2.2.2.2 _ hw, ⟨_, _, _, hi⟩, hst⟩ (by rw [q2]; exact h6) q1 q3 (by rw [hsl]; exact k2_hasslot (q4 j hj)) rfl rfl hd fun H' e1 e2 e3 => ?_
  exact kk p e s m args below meth c C1 H' _ ls (hR.put F.1 hh hj hl hsl.symm hap q1 e1 e2 e3) (hS.put e2 e3 (hR.gw hh)) hlv
end EWU
set_option maxHeartbeats 600000 in
theorem at_th4 {l : Launch} {G : GW} {h : AH} {n : Nat} {c : Nat} (xc : h c = some (OB 2 [.null, .null, .null, .null, .null, .int 0, .int 0])) : AM l G yJ3_init_2 cJ3_init_2 5 none 1 0 0 [.ref c, .null, .null, .int 0, .int 0] h n (Qv (hov h [(c, OB 2 [.null, .null, .null, .null, .null, .int 0, .int 0])]) n) := by
  refine AM.of (L := [some (.ref c), some (.null), some (.null), some (.int 0), some (.int 0)]) (by decide) (Nat.le_of_ble_eq_true rfl) rfl ?_
  refine ew_aload_n (t := 1) dJ3_init_2_0 rfl rfl rfl ?_
  refine ew_objInit (t := 4) q183 q89 q90 dJ3_init_2_1 (by decide) (by decide) rfl ?_
  refine ew_aload_n (t := 5) dJ3_init_2_4 rfl rfl rfl ?_
  refine ew_aload_n (t := 6) dJ3_init_2_5 rfl rfl rfl ?_
  refine ew_put (t := 9) (j := 0) (fs' := [.ref c, .null, .null, .null, .null, .int 0, .int 0]) (h' := (hov h [(c, OB 2 [.ref c, .null, .null, .null, .null, .int 0, .int 0])])) fcX2 xc (Nat.le_of_ble_eq_true rfl) rfl q227 rfl rfl (Nat.le_of_ble_eq_true rfl) rfl dJ3_init_2_6 hov_up0 rfl ?_
  refine ew_aload_n (t := 10) dJ3_init_2_9 rfl rfl rfl ?_
  refine ew_getsU1 (t := 13) q184 dJ3_init_2_10 rfl ?_
  refine ew_putU (t := 16) (j := 1) (x := 0) (fs' := [.ref c, .retAddr 1, .null, .null, .null, .int 0, .int 0]) (h' := (hov h [(c, OB 2 [.ref c, .retAddr 1, .null, .null, .null, .int 0, .int 0])])) fcX2 hv_hit (Nat.le_of_ble_eq_true rfl) rfl q228 (fun r => by cases r <;> rfl) (Nat.le_of_ble_eq_true rfl) rfl dJ3_init_2_13 hov_set_hit rfl ?_
  refine ew_aload_n (t := 17) dJ3_init_2_16 rfl rfl rfl ?_
  refine ew_getsU2 (t := 20) q186 dJ3_init_2_17 rfl ?_
  refine ew_putU (t := 23) (j := 2) (x := 1) (fs' := [.ref c, .retAddr 1, .retAddr 2, .null, .null, .int 0, .int 0]) (h' := (hov h [(c, OB 2 [.ref c, .retAddr 1, .retAddr 2, .null, .null, .int 0, .int 0])])) fcX2 hv_hit (Nat.le_of_ble_eq_true rfl) rfl q229 (fun r => by cases r <;> rfl) (Nat.le_of_ble_eq_true rfl) rfl dJ3_init_2_20 hov_set_hit rfl ?_
  refine ew_iload (t := 25) dJ3_init_2_23 rfl rfl ?_
  refine ew_if_eq (t := 36) (t2 := 28) dJ3_init_2_25 rfl rfl (fun c_25 => ?_) (fun c_25 => ?_)
  · refine ew_aload_n (t := 37) dJ3_init_2_36 rfl rfl rfl ?_
    refine ew_null (t := 38) dJ3_init_2_37 rfl ?_
    refine ew_put (t := 41) (j := 1) (fs' := [.ref c, .null, .retAddr 2, .null, .null, .int 0, .int 0]) (h' := (hov h [(c, OB 2 [.ref c, .null, .retAddr 2, .null, .null, .int 0, .int 0])])) fcX2 hv_hit (Nat.le_of_ble_eq_true rfl) rfl q228 rfl rfl (Nat.le_of_ble_eq_true rfl) rfl dJ3_init_2_38 hov_set_hit rfl ?_
    refine ew_aload_n (t := 42) dJ3_init_2_41 rfl rfl rfl ?_
    refine ew_aload_nN (t := 43) dJ3_init_2_42 rfl rfl rfl ?_
    refine ew_put (t := 46) (j := 3) (fs' := [.ref c, .null, .retAddr 2, .null, .null, .int 0, .int 0]) (h' := (hov h [(c, OB 2 [.ref c, .null, .retAddr 2, .null, .null, .int 0, .int 0])])) fcX2 hv_hit (Nat.le_of_ble_eq_true rfl) rfl q226 rfl rfl (Nat.le_of_ble_eq_true rfl) rfl dJ3_init_2_43 hov_set_hit rfl ?_
    refine ew_aload_n (t := 47) dJ3_init_2_46 rfl rfl rfl ?_
    refine ew_aload_nN (t := 48) dJ3_init_2_47 rfl rfl rfl ?_
    refine ew_put (t := 51) (j := 0) (fs' := [.null, .null, .retAddr 2, .null, .null, .int 0, .int 0]) (h' := (hov h [(c, OB 2 [.null, .null, .retAddr 2, .null, .null, .int 0, .int 0])])) fcX2 hv_hit (Nat.le_of_ble_eq_true rfl) rfl q227 rfl rfl (Nat.le_of_ble_eq_true rfl) rfl dJ3_init_2_48 hov_set_hit rfl ?_
    refine ew_iload_n (t := 52) dJ3_init_2_51 rfl rfl rfl ?_
    refine ew_if_ne (t := 60) (t2 := 55) dJ3_init_2_52 rfl rfl (fun c_52 => ?_) (fun c_52 => ?_)
    · exact absurd c_52 (by decide)
    · refine ew_aload_n (t := 56) dJ3_init_2_55 rfl rfl rfl ?_
      refine ew_null (t := 57) dJ3_init_2_56 rfl ?_
      refine ew_put (t := 60) (j := 2) (fs' := [.null, .null, .null, .null, .null, .int 0, .int 0]) (h' := (hov h [(c, OB 2 [.null, .null, .null, .null, .null, .int 0, .int 0])])) fcX2 hv_hit (Nat.le_of_ble_eq_true rfl) rfl q229 rfl rfl (Nat.le_of_ble_eq_true rfl) rfl dJ3_init_2_57 hov_set_hit rfl ?_
      exact ew_vret rfl dJ3_init_2_60 (Nat.le_refl _) (Nat.le_refl _) ⟨rfl, rfl, rfl⟩
  · exact absurd c_25 (by decide)
set_option maxHeartbeats 600000 in
theorem at_ex4 {l : Launch} {G : GW} {h : AH} {n : Nat} {c : Nat} (xc : h c = some (OB 2 [.null, .null, .null, .null, .null, .int 0, .int 0])) : AM l G yJ4_init cJ4_init 5 none 2 0 0 [.ref c, .null, .null, .int 0, .int 0] h n (Qv (hov h [(c, OB 2 [.null, .null, .null, .null, .null, .int 0, .int 0])]) n) := by
  refine AM.of (L := [some (.ref c), some (.null), some (.null), some (.int 0), some (.int 0)]) (by decide) (Nat.le_of_ble_eq_true rfl) rfl ?_
  refine ew_aload_n (t := 1) dJ4_init_0 rfl rfl rfl ?_
  refine ew_aload_nN (t := 2) dJ4_init_1 rfl rfl rfl ?_
  refine ew_aload_nN (t := 3) dJ4_init_2 rfl rfl rfl ?_
  refine ew_iload_n (t := 4) dJ4_init_3 rfl rfl rfl ?_
  refine ew_iload (t := 6) dJ4_init_4 rfl rfl ?_
  refine ew_callI (t := 9) (As := [_, _, _, _]) (at_th4 (h := h) xc) q221 q222 q56 q223 rfl naJ3_init_2 dJ4_init_6 rfl (Nat.le_of_ble_eq_true rfl) (Nat.le_of_ble_eq_true rfl) (Nat.le_refl _) (Nat.le_refl _) (Nat.le_of_ble_eq_true rfl) rfl (qv ?_)
  exact ew_vret rfl dJ4_init_9 (Nat.le_refl _) (Nat.le_refl _) ⟨rfl, rfl, rfl⟩
set_option maxHeartbeats 600000 in
theorem at_fault {l : Launch} {G : GW} {h : AH} {n : Nat} {c : Nat} (xc : h c = some (OB 2 [.null, .null, .null, .null, .null, .int 0, .int 0])) : AM l G yX2_init cX2_init 1 none 3 0 0 [.ref c] h n (Qv (hov h [(c, OB 2 [.null, .null, .null, .null, .null, .int 0, .int 0])]) n) := by
  refine AM.of (L := [some (.ref c)]) (by decide) (Nat.le_of_ble_eq_true rfl) rfl ?_
  refine ew_aload_n (t := 1) dX2_init_0 rfl rfl rfl ?_
  refine ew_null (t := 2) dX2_init_1 rfl ?_
  refine ew_null (t := 3) dX2_init_2 rfl ?_
  refine ew_ic0 (t := 4) dX2_init_3 rfl ?_
  refine ew_ic0 (t := 5) dX2_init_4 rfl ?_
  refine ew_callI (t := 8) (As := [_, _, _, _]) (at_ex4 (h := h) xc) q218 q219 q57 q220 rfl naJ4_init dX2_init_5 rfl (Nat.le_of_ble_eq_true rfl) (Nat.le_of_ble_eq_true rfl) (Nat.le_refl _) (Nat.le_refl _) (Nat.le_of_ble_eq_true rfl) rfl (qv ?_)
  exact ew_vret rfl dX2_init_8 (Nat.le_refl _) (Nat.le_refl _) ⟨rfl, rfl, rfl⟩
set_option maxHeartbeats 600000 in
theorem al_init {l : Launch} {G : GW} {h : AH} {n : Nat} {c : Nat} (xc : h c = some (OB 12 [.int 0, .null, .int 0])) : AM l G yJ2_init cJ2_init 1 none 3 0 0 [.ref c] h n (Qv (hov h [(c, OB 12 [.int 0, .ref 0, .int 0])]) n) := by
  refine AM.of (L := [some (.ref c)]) (by decide) (Nat.le_of_ble_eq_true rfl) rfl ?_
  refine ew_aload_n (t := 1) dJ2_init_0 rfl rfl rfl ?_
  refine ew_callI (t := 4) (As := []) (al_i1 (h := h) xc) q102 q103 q54 q104 rfl naJ1_init dJ2_init_1 rfl (Nat.le_of_ble_eq_true rfl) (Nat.le_of_ble_eq_true rfl) (Nat.le_refl _) (Nat.le_refl _) (Nat.le_of_ble_eq_true rfl) rfl (qv ?_)
  refine ew_aload_n (t := 5) dJ2_init_4 rfl rfl rfl ?_
  refine ew_gets0 (t := 8) q109 dJ2_init_5 rfl ?_
  refine ew_put (t := 11) (j := 1) (fs' := [.int 0, .ref 0, .int 0]) (h' := (hov h [(c, OB 12 [.int 0, .ref 0, .int 0])])) fcJ2 hv_hit (Nat.le_of_ble_eq_true rfl) rfl q111 rfl rfl (Nat.le_of_ble_eq_true rfl) rfl dJ2_init_8 hov_set_hit rfl ?_
  exact ew_vret rfl dJ2_init_11 (Nat.le_refl _) (Nat.le_refl _) ⟨rfl, rfl, rfl⟩
set_option maxHeartbeats 600000 in
theorem at_sheet {l : Launch} {G : GW} {h : AH} {n : Nat} {c : Nat} : AM l G yX3_init cX3_init 1 none 1 0 0 [.ref c] h n (Qv h n) := by
  refine AM.of (L := [some (.ref c)]) (by decide) (Nat.le_of_ble_eq_true rfl) rfl ?_
  refine ew_aload_n (t := 1) dX3_init_0 rfl rfl rfl ?_
  refine ew_objInit (t := 4) q246 q89 q90 dX3_init_1 (by decide) (by decide) rfl ?_
  exact ew_vret rfl dX3_init_4 (Nat.le_refl _) (Nat.le_refl _) ⟨rfl, rfl, rfl⟩
