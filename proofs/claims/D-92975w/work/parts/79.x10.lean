-- Obj fields dict_keys(['cls', 'fun', 'sname', 'refs', 'extra', 'ups'])
/-! ArrayList: its field modCount is its superclass's; size, get, add -/
set_option maxRecDepth 100000
section EWM2
variable {l : Launch} {G : GW} {y : MethodName} {cc : ByteArray} {nL : Nat} {ret : Option FieldType} {fr mc ms : Nat} {Q : Option Value → AH → Nat → Prop} {k sl : Nat} {h : AH} {n pc t : Nat} {L : List (Option Value)} {st : List Value}
theorem ew_getM {a i : Nat} {x : Int32} {v1 v2 : Value} (hh : h a = some (OB 12 [.int x, v1, v2])) (hw : Cond.fieldLink y.cls i "java/util/ArrayList" "modCount" "I" ∈ lw_all) (hd : decode cc pc = .ok (.getfield i, 3)) (hp : pc + 3 = t)
    (kk : EW l G y cc nL ret fr mc ms Q k sl h n t L (.int x :: st)) : EW l G y cc nL ret fr mc ms Q k sl h n pc L (.ref a :: st) := by
  subst hp
  intro p e s m args below meth c C1 H locs ls hR hS hl
  exact va_get (D := gD G) (ci := 12) (v := .int x) C1.1.1 C1.1.2.1 C1.1.2.2.2.2 fcJ2.2.1 C1.1.2.2.2.1 C1.2.2.2.2.1 (hR.one hh) 0 rfl fcJ2.1 0 (by decide) (C1.1.2.2.2.2 _ hw) (u_same (C1.1.2.2.2.2 _ q115)) (shs_get (G := G) (fs := [.int x, v1, v2]) (j := 0) (v := .int x) rfl) hd (kk p e s m args below meth c C1 H locs ls hR hS hl)
theorem ew_putM {a i : Nat} {x0 x : Int32} {v1 v2 : Value} {h' : AH} (hh : h a = some (OB 12 [.int x0, v1, v2])) (hw : Cond.fieldLink y.cls i "java/util/ArrayList" "modCount" "I" ∈ lw_all) (hd : decode cc pc = .ok (.putfield i, 3)) (hu : va_up h a (some (OB 12 [.int x, v1, v2])) = h') (hp : pc + 3 = t)
    (kk : EW l G y cc nL ret fr mc ms Q k sl h' n t L st) : EW l G y cc nL ret fr mc ms Q k sl h n pc L (.int x :: .ref a :: st) := by
  subst hp hu
  intro p e s m args below meth c C1 H locs ls hR hS hlv
  have hap := va_apart (own := RJ2) C1.1.2.2.2.2 fcJ2.2.1 tyJ2 fcJ2.2.2.1 fcJ2.2.2.2 C1.2.2.2.2.1 fcJ2.1
  obtain ⟨r, h1, cell, q1, q2, q3, q4⟩ := hR.2.2.2 a _ hh
  have hr : r = (RJ2, TJ2, 3) := Option.some.inj (h1.symm.trans fcJ2.1)
  subst hr
  obtain ⟨hSl, hfc, kC, hkC, hkind⟩ := C1.2.2.2.2.1.1 12 _ fcJ2.1
  obtain ⟨cf, kf, fi, f, hi, hsl⟩ := hSl 0 (by decide)
  have hlay := C1.1.2.2.2.2 _ (fcJ2.2.1 _ (u_in_lay (k := 0) (by decide)))
  unfold u_lay at hlay
  rw [if_neg (by decide)] at hlay
  have hst := (u_facts hfc hkC (u_lays C1.1.2.2.2.2 fcJ2.2.1 (by decide)) hi).1
  have h6 := u_store hfc hkC hkind hlay hi (fcJ2.2.2.1 0 (by decide)) (v := .int x) rfl rfl
  refine W.putK C1.1.1 C1.1.2.1 (f := f) ⟨C1.1.2.2.2.1, C1.1.2.2.2.2 _ hw, ⟨_, _, _, u_same (C1.1.2.2.2.2 _ q115) _ hi⟩, hst⟩ (by rw [q2]; exact h6) q1 q3 (by rw [hsl]; exact k2_hasslot (q4 0 (by decide))) rfl rfl hd fun H' e1 e2 e3 => ?_
  exact kk p e s m args below meth c C1 H' _ ls (hR.put (v := .int x) (j := 0) fcJ2.1 hh (by decide) (Nat.zero_lt_succ _) hsl.symm hap q1 e1 e2 e3) (hS.put e2 e3 (hR.gw hh)) hlv
end EWM2
set_option maxHeartbeats 600000 in
theorem al_size {l : Launch} {G : GW} {h : AH} {n : Nat} {c e np : Nat} {mo : Int32} (xc : h c = some (OB 12 [.int mo, .ref e, .int (nI np)])) : AM l G yJ2_size cJ2_size 1 (some .int) 0 0 0 [.ref c] h n (Qi (nI np) h n) := by
  refine AM.of (L := [some (.ref c)]) (by decide) (Nat.le_of_ble_eq_true rfl) rfl ?_
  refine ew_aload_n (t := 1) dJ2_size_0 rfl rfl rfl ?_
  refine ew_get (t := 4) (j := 2) (v := .int (nI np)) fcJ2 xc (Nat.le_of_ble_eq_true rfl) q112 rfl dJ2_size_1 rfl ?_
  exact ew_iret rfl dJ2_size_4 (Nat.le_refl _) (Nat.le_refl _) ⟨rfl, rfl, rfl⟩
set_option maxHeartbeats 600000 in
theorem al_ck9 {l : Launch} {G : GW} {h : AH} {n : Nat} {k np : Nat} (hk : k < np) (hnp : np ≤ 10) : AM l G yJ9_checkIndex cJ9_checkIndex 3 (some .int) 0 0 0 [.int (nI k), .int (nI np), .null] h n (Qi (nI k) h n) := by
  refine AM.of (L := [some (.int (nI k)), some (.int (nI np)), some (.null)]) (by decide) (Nat.le_of_ble_eq_true rfl) rfl ?_
  refine ew_iload_n (t := 1) dJ9_checkIndex_0 rfl rfl rfl ?_
  refine ew_if_lt (t := 9) (t2 := 4) dJ9_checkIndex_1 rfl rfl (fun c_1 => ?_) (fun c_1 => ?_)
  · exact absurd c_1 (nI_pos (by omega))
  · refine ew_iload_n (t := 5) dJ9_checkIndex_4 rfl rfl rfl ?_
    refine ew_iload_n (t := 6) dJ9_checkIndex_5 rfl rfl rfl ?_
    refine ew_icmp_lt (t := 16) (t2 := 9) dJ9_checkIndex_6 rfl rfl (fun c_6 => ?_) (fun c_6 => ?_)
    · refine ew_iload_n (t := 17) dJ9_checkIndex_16 rfl rfl rfl ?_
      exact ew_iret rfl dJ9_checkIndex_17 (Nat.le_refl _) (Nat.le_refl _) ⟨rfl, rfl, rfl⟩
    · exact absurd (nI_lt hk (by omega)) c_6
set_option maxHeartbeats 600000 in
theorem al_ck8 {l : Launch} {G : GW} {h : AH} {n : Nat} {k np : Nat} (hk : k < np) (hnp : np ≤ 10) : AM l G yJ8_checkIndex cJ8_checkIndex 2 (some .int) 1 0 0 [.int (nI k), .int (nI np)] h n (Qi (nI k) h n) := by
  refine AM.of (L := [some (.int (nI k)), some (.int (nI np))]) (by decide) (Nat.le_of_ble_eq_true rfl) rfl ?_
  refine ew_iload_n (t := 1) dJ8_checkIndex_0 rfl rfl rfl ?_
  refine ew_iload_n (t := 2) dJ8_checkIndex_1 rfl rfl rfl ?_
  refine ew_null (t := 3) dJ8_checkIndex_2 rfl ?_
  refine ew_callS (t := 6) (As := [_, _, _]) (al_ck9 hk hnp) (lw_S q683 q684 q71 q685) naJ9_checkIndex dJ8_checkIndex_3 rfl (Nat.le_of_ble_eq_true rfl) (Nat.le_of_ble_eq_true rfl) (Nat.le_refl _) (Nat.le_refl _) (Nat.le_of_ble_eq_true rfl) rfl (qi ?_)
  exact ew_iret rfl dJ8_checkIndex_6 (Nat.le_refl _) (Nat.le_refl _) ⟨rfl, rfl, rfl⟩

set_option maxHeartbeats 600000 in
theorem al_elem {l : Launch} {G : GW} {h : AH} {n : Nat} {c e np k p : Nat} {mo : Int32} {f : Nat → Option Nat} (hk : k < np) (hnp : np ≤ 10) (xc : h c = some (OB 12 [.int mo, .ref e, .int (nI np)])) (xe : h e = some (RA 10 f)) (hf : f k = some p) : AM l G yJ2_elementData cJ2_elementData 2 (some (.object "java/lang/Object")) 0 0 0 [.ref c, .int (nI k)] h n (Qr p h n) := by
  refine AM.of (L := [some (.ref c), some (.int (nI k))]) (by decide) (Nat.le_of_ble_eq_true rfl) rfl ?_
  refine ew_aload_n (t := 1) dJ2_elementData_0 rfl rfl rfl ?_
  refine ew_get (t := 4) (j := 1) (v := .ref e) fcJ2 xc (Nat.le_of_ble_eq_true rfl) q111 rfl dJ2_elementData_1 rfl ?_
  refine ew_iload_n (t := 5) dJ2_elementData_4 rfl rfl rfl ?_
  refine ew_aald5 (t := 6) (j := k) xe (vp_in_nI (by omega) (by omega)) (nI_clamp (by omega)) dJ2_elementData_5 rfl ?_
  rw [hf]
  exact ew_aret rfl (Or.inl ⟨_, rfl⟩) dJ2_elementData_6 (Nat.le_refl _) (Nat.le_refl _) ⟨rfl, rfl, rfl⟩
set_option maxHeartbeats 600000 in
theorem al_get {l : Launch} {G : GW} {h : AH} {n : Nat} {c e np k p : Nat} {mo : Int32} {f : Nat → Option Nat} (hk : k < np) (hnp : np ≤ 10) (xc : h c = some (OB 12 [.int mo, .ref e, .int (nI np)])) (xe : h e = some (RA 10 f)) (hf : f k = some p) : AM l G yJ2_get cJ2_get 2 (some (.object "java/lang/Object")) 2 0 0 [.ref c, .int (nI k)] h n (Qr p h n) := by
  refine AM.of (L := [some (.ref c), some (.int (nI k))]) (by decide) (Nat.le_of_ble_eq_true rfl) rfl ?_
  refine ew_iload_n (t := 1) dJ2_get_0 rfl rfl rfl ?_
  refine ew_aload_n (t := 2) dJ2_get_1 rfl rfl rfl ?_
  refine ew_get (t := 5) (j := 2) (v := .int (nI np)) fcJ2 xc (Nat.le_of_ble_eq_true rfl) q112 rfl dJ2_get_2 rfl ?_
  refine ew_callS (t := 8) (As := [_, _]) (al_ck8 hk hnp) (lw_S q680 q681 q70 q682) naJ8_checkIndex dJ2_get_5 rfl (Nat.le_of_ble_eq_true rfl) (Nat.le_of_ble_eq_true rfl) (Nat.le_refl _) (Nat.le_refl _) (Nat.le_of_ble_eq_true rfl) rfl (qi ?_)
  refine ew_pop (t := 9) dJ2_get_8 rfl rfl ?_
  refine ew_aload_n (t := 10) dJ2_get_9 rfl rfl rfl ?_
  refine ew_iload_n (t := 11) dJ2_get_10 rfl rfl rfl ?_
  refine ew_callV (t := 14) (As := [_]) (al_elem hk hnp xc xe hf) (fcJ2).1 xc (lw_V q686 q687 q688 q55 q689) rfl naJ2_elementData dJ2_get_11 rfl (Nat.le_of_ble_eq_true rfl) (Nat.le_of_ble_eq_true rfl) (Nat.le_refl _) (Nat.le_refl _) (Nat.le_of_ble_eq_true rfl) rfl (qr ?_)
  exact ew_aret rfl (Or.inl ⟨_, rfl⟩) dJ2_get_14 (Nat.le_refl _) (Nat.le_refl _) ⟨rfl, rfl, rfl⟩
set_option maxHeartbeats 600000 in
theorem al_grow2 {l : Launch} {G : GW} {h : AH} {n : Nat} {c np q : Nat} {mo : Int32} (hn : 63 ≤ n) (hcn : c < n) (hq : q ≤ 10) (xc : h c = some (OB 12 [.int mo, .ref 0, .int (nI np)])) : AM l G yJ2_grow_2 cJ2_grow_2 4 (some (.array (.object "java/lang/Object"))) 1 1 10 [.ref c, .int (nI q)] h n (Qr n (hov h [(n, RA 10 (fun _ => none)), (c, OB 12 [.int mo, .ref n, .int (nI np)])]) (n + 1)) := by
  refine AM.of (L := [some (.ref c), some (.int (nI q)), none, none]) (by decide) (Nat.le_of_ble_eq_true rfl) rfl ?_
  refine ew_aload_n (t := 1) dJ2_grow_2_0 rfl rfl rfl ?_
  refine ew_get (t := 4) (j := 1) (v := .ref 0) fcJ2 xc (Nat.le_of_ble_eq_true rfl) q111 rfl dJ2_grow_2_1 rfl ?_
  refine ew_alen0 (t := 5) dJ2_grow_2_4 rfl ?_
  refine ew_istore_n (t := 6) (L' := [some (.ref c), some (.int (nI q)), some (.int 0), none]) dJ2_grow_2_5 rfl (Nat.le_of_ble_eq_true rfl) rfl rfl ?_
  refine ew_iload_n (t := 7) dJ2_grow_2_6 rfl rfl rfl ?_
  refine ew_if_gt (t := 20) (t2 := 10) dJ2_grow_2_7 rfl rfl (fun c_7 => ?_) (fun c_7 => ?_)
  · exact absurd c_7 (by decide)
  · refine ew_aload_n (t := 11) dJ2_grow_2_10 rfl rfl rfl ?_
    refine ew_get (t := 14) (j := 1) (v := .ref 0) fcJ2 xc (Nat.le_of_ble_eq_true rfl) q111 rfl dJ2_grow_2_11 rfl ?_
    refine ew_gets0 (t := 17) q109 dJ2_grow_2_14 rfl ?_
    refine ew_acmp0 (t := 45) dJ2_grow_2_17 rfl ?_
    refine ew_aload_n (t := 46) dJ2_grow_2_45 rfl rfl rfl ?_
    refine ew_bipush (t := 48) (v := 10) dJ2_grow_2_46 (by decide) rfl ?_
    refine ew_iload_n (t := 49) dJ2_grow_2_48 rfl rfl rfl ?_
    refine ew_mmax (t := 52) q652 q613 q62 q614 dJ2_grow_2_49 (Nat.le_of_ble_eq_true rfl) (by omega) (by omega) (Nat.le_of_ble_eq_true rfl) rfl ?_
    rw [if_neg (show ¬ (10 : Int32) < nI q from Int32.not_lt.mpr (nI_le (b := 10) hq (by omega)))]
    refine ew_newR (t := 55) (N := 10) (h' := (hov h [(n, RA 10 (fun _ => none))])) dJ2_grow_2_52 q653 (by decide) (by decide) (by decide) (by first | decide | omega) (by first | decide | omega) hov_up0 rfl ?_
    refine ew_dupx1 (t := 56) dJ2_grow_2_55 rfl rfl rfl ?_
    refine ew_put (t := 59) (j := 1) (fs' := [.int mo, .ref n, .int (nI np)]) (h' := (hov h [(n, RA 10 (fun _ => none)), (c, OB 12 [.int mo, .ref n, .int (nI np)])])) fcJ2 ((hv_miss (by omega)).trans xc) (Nat.le_of_ble_eq_true rfl) rfl q111 rfl rfl (Nat.le_of_ble_eq_true rfl) rfl dJ2_grow_2_56 (hov_set_miss (by omega) hov_set_nil) rfl ?_
    exact ew_aret rfl (Or.inr ⟨_, rfl⟩) dJ2_grow_2_59 (by decide) (by decide) ⟨rfl, rfl, rfl⟩
set_option maxHeartbeats 600000 in
theorem al_grow {l : Launch} {G : GW} {h : AH} {n : Nat} {c np : Nat} {mo : Int32} (hn : 63 ≤ n) (hcn : c < n) (hnp : np ≤ 4) (xc : h c = some (OB 12 [.int mo, .ref 0, .int (nI np)])) : AM l G yJ2_grow cJ2_grow 1 (some (.array (.object "java/lang/Object"))) 2 1 10 [.ref c] h n (Qr n (hov h [(n, RA 10 (fun _ => none)), (c, OB 12 [.int mo, .ref n, .int (nI np)])]) (n + 1)) := by
  refine AM.of (L := [some (.ref c)]) (by decide) (Nat.le_of_ble_eq_true rfl) rfl ?_
  refine ew_aload_n (t := 1) dJ2_grow_0 rfl rfl rfl ?_
  refine ew_aload_n (t := 2) dJ2_grow_1 rfl rfl rfl ?_
  refine ew_get (t := 5) (j := 2) (v := .int (nI np)) fcJ2 xc (Nat.le_of_ble_eq_true rfl) q112 rfl dJ2_grow_2 rfl ?_
  refine ew_ic1 (t := 6) dJ2_grow_5 rfl ?_
  refine ew_iadd (t := 7) dJ2_grow_6 rfl ?_
  rw [nI_1 np]
  refine ew_callV (t := 10) (As := [_]) (al_grow2 (q := np + 1) hn hcn (by omega) xc) (fcJ2).1 xc (lw_V q605 q607 qs20 q55 q608) rfl naJ2_grow_2 dJ2_grow_7 rfl (Nat.le_of_ble_eq_true rfl) (Nat.le_of_ble_eq_true rfl) (by omega) (by omega) (Nat.le_of_ble_eq_true rfl) rfl (qr ?_)
  exact ew_aret rfl (Or.inr ⟨_, rfl⟩) dJ2_grow_10 (by decide) (by decide) ⟨rfl, rfl, rfl⟩
