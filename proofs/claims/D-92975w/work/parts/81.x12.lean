-- Obj fields dict_keys(['cls', 'fun', 'sname', 'refs', 'extra', 'ups'])
/-! ArrayList: toArray, addAll, its constructor -/
set_option maxRecDepth 100000
set_option maxHeartbeats 600000 in
theorem al_cp20 {l : Launch} {G : GW} {h : AH} {n : Nat} (hn : 63 ≤ n) : AM l G yJ7_copyOf_2 cJ7_copyOf_2 4 (some (.array (.object "java/lang/Object"))) 1 1 10 [.ref 0, .int 0, .retAddr 0] h n (Qr n (hov h [(n, RA 0 (fun _ => none))]) (n + 1)) := by
  refine AM.of (L := [some (.ref 0), some (.int 0), some (.retAddr 0), none]) (by decide) (Nat.le_of_ble_eq_true rfl) rfl ?_
  refine ew_aload_nM (t := 1) dJ7_copyOf_2_0 rfl rfl rfl ?_
  refine ew_ldcM (t := 3) q647 dJ7_copyOf_2_1 rfl ?_
  refine ew_acmpM (t := 6) (tg := 13) dJ7_copyOf_2_3 rfl rfl ?_
  refine ew_iload_n (t := 7) dJ7_copyOf_2_6 rfl rfl rfl ?_
  refine ew_newR (t := 10) (N := 0) (h' := (hov h [(n, RA 0 (fun _ => none))])) dJ7_copyOf_2_7 q649 (by decide) (by decide) (by decide) (by first | decide | omega) (by first | decide | omega) hov_up0 rfl ?_
  refine ew_goto (t := 24) dJ7_copyOf_2_10 rfl ?_
  refine ew_astore_n (t := 25) (L' := [some (.ref 0), some (.int 0), some (.retAddr 0), some (.ref n)]) dJ7_copyOf_2_24 rfl (Nat.le_of_ble_eq_true rfl) rfl rfl ?_
  refine ew_aload_n (t := 26) dJ7_copyOf_2_25 rfl rfl rfl ?_
  refine ew_ic0 (t := 27) dJ7_copyOf_2_26 rfl ?_
  refine ew_aload_n (t := 28) dJ7_copyOf_2_27 rfl rfl rfl ?_
  refine ew_ic0 (t := 29) dJ7_copyOf_2_28 rfl ?_
  refine ew_aload_n (t := 30) dJ7_copyOf_2_29 rfl rfl rfl ?_
  refine ew_alen0 (t := 31) dJ7_copyOf_2_30 rfl ?_
  refine ew_iload_n (t := 32) dJ7_copyOf_2_31 rfl rfl rfl ?_
  refine ew_mmin (t := 35) q650 q385 q62 q386 dJ7_copyOf_2_32 (Nat.le_of_ble_eq_true rfl) (by omega) (by omega) (Nat.le_of_ble_eq_true rfl) rfl ?_
  rw [if_neg (show ¬ (0 : Int32) < 0 by decide)]
  refine ew_copy0 (t := 38) q651 q359 q358 q61 hv_hit dJ7_copyOf_2_35 (Nat.le_of_ble_eq_true rfl) (Nat.le_of_ble_eq_true rfl) rfl ?_
  refine ew_aload_n (t := 39) dJ7_copyOf_2_38 rfl rfl rfl ?_
  exact ew_aret rfl (Or.inr ⟨_, rfl⟩) dJ7_copyOf_2_39 (by decide) (by decide) ⟨rfl, rfl, rfl⟩
set_option maxHeartbeats 600000 in
theorem al_cp21 {l : Launch} {G : GW} {h : AH} {n : Nat} {e np ci Nf : Nat} {C : String} {Tf : u_T} {f : Nat → Option Nat} (hn : 63 ≤ n) (hen : e < n) (hnp : np ≤ 10) (xe : h e = some (RA 10 f)) (hcl : vwCl[ci]? = some (C, Tf, Nf)) (hcast : Cond.castable C "java/lang/Object" ∈ lw_tbl) (hel : ∀ j, j < np → ∀ q, f j = some q → q < n ∧ ∃ vs, h q = some (OB ci vs)) : AM l G yJ7_copyOf_2 cJ7_copyOf_2 4 (some (.array (.object "java/lang/Object"))) 1 1 10 [.ref e, .int (nI np), .retAddr 0] h n (Qr n (hov h [(n, RA np (va_cpy f (fun _ => none) 0 0 np))]) (n + 1)) := by
  refine AM.of (L := [some (.ref e), some (.int (nI np)), some (.retAddr 0), none]) (by decide) (Nat.le_of_ble_eq_true rfl) rfl ?_
  refine ew_aload_nM (t := 1) dJ7_copyOf_2_0 rfl rfl rfl ?_
  refine ew_ldcM (t := 3) q647 dJ7_copyOf_2_1 rfl ?_
  refine ew_acmpM (t := 6) (tg := 13) dJ7_copyOf_2_3 rfl rfl ?_
  refine ew_iload_n (t := 7) dJ7_copyOf_2_6 rfl rfl rfl ?_
  refine ew_newR (t := 10) (N := np) (h' := (hov h [(n, RA np (fun _ => none))])) dJ7_copyOf_2_7 q649 (nI_pos (by omega)) (nI_clamp (by omega)) (by omega) (by first | decide | omega) (by first | decide | omega) hov_up0 rfl ?_
  refine ew_goto (t := 24) dJ7_copyOf_2_10 rfl ?_
  refine ew_astore_n (t := 25) (L' := [some (.ref e), some (.int (nI np)), some (.retAddr 0), some (.ref n)]) dJ7_copyOf_2_24 rfl (Nat.le_of_ble_eq_true rfl) rfl rfl ?_
  refine ew_aload_n (t := 26) dJ7_copyOf_2_25 rfl rfl rfl ?_
  refine ew_ic0 (t := 27) dJ7_copyOf_2_26 rfl ?_
  refine ew_aload_n (t := 28) dJ7_copyOf_2_27 rfl rfl rfl ?_
  refine ew_ic0 (t := 29) dJ7_copyOf_2_28 rfl ?_
  refine ew_aload_n (t := 30) dJ7_copyOf_2_29 rfl rfl rfl ?_
  refine ew_alen (t := 31) (v := 10) ((hv_miss (by omega)).trans xe) (Nat.le_of_ble_eq_true rfl) rfl dJ7_copyOf_2_30 rfl ?_
  refine ew_iload_n (t := 32) dJ7_copyOf_2_31 rfl rfl rfl ?_
  refine ew_mmin (t := 35) q650 q385 q62 q386 dJ7_copyOf_2_32 (Nat.le_of_ble_eq_true rfl) (by omega) (by omega) (Nat.le_of_ble_eq_true rfl) rfl ?_
  rw [show (if nI np < 10 then nI np else 10) = nI np from by
    by_cases c : nI np < 10
    · exact if_pos c
    · rw [if_neg c, show np = 10 from Nat.le_antisymm hnp (Nat.le_of_not_lt (fun q => c (nI_lt (b := 10) q (by omega))))]; rfl]
  refine ew_copyR (t := 38) (sp := 0) (dp := 0) (N := np) (h' := (hov h [(n, RA np (va_cpy f (fun _ => none) 0 0 np))])) q651 q359 q358 q61 ((hv_miss (by omega)).trans xe) hv_hit hcl hcast (fun j hj q hq => by obtain ⟨h8, vs, h9⟩ := hel j hj q (by rw [← hq]; congr 1; omega); exact ⟨vs, (hv_miss (by omega)).trans h9⟩) (by decide) (by decide) (nI_pos (by omega)) (by decide) (by decide) (nI_clamp (by omega)) (by omega) (by omega) dJ7_copyOf_2_35 (Nat.le_of_ble_eq_true rfl) (Nat.le_of_ble_eq_true rfl) hov_set_hit rfl ?_
  refine ew_aload_n (t := 39) dJ7_copyOf_2_38 rfl rfl rfl ?_
  exact ew_aret rfl (Or.inr ⟨_, rfl⟩) dJ7_copyOf_2_39 (by omega) (by omega) ⟨rfl, rfl, rfl⟩
set_option maxHeartbeats 600000 in
theorem al_cp10 {l : Launch} {G : GW} {h : AH} {n : Nat} (hn : 63 ≤ n) : AM l G yJ7_copyOf cJ7_copyOf 2 (some (.array (.object "java/lang/Object"))) 2 1 10 [.ref 0, .int 0] h n (Qr n (hov h [(n, RA 0 (fun _ => none))]) (n + 1)) := by
  refine AM.of (L := [some (.ref 0), some (.int 0)]) (by decide) (Nat.le_of_ble_eq_true rfl) rfl ?_
  refine ew_aload_n (t := 1) dJ7_copyOf_0 rfl rfl rfl ?_
  refine ew_iload_n (t := 2) dJ7_copyOf_1 rfl rfl rfl ?_
  refine ew_aload_n (t := 3) dJ7_copyOf_2 rfl rfl rfl ?_
  refine ew_getC (t := 6) (N := 10) (f := (fun _ => none)) (Or.inl rfl) q622 q1435 q1434 q623 q643 dJ7_copyOf_3 (Nat.le_of_ble_eq_true rfl) (Nat.le_of_ble_eq_true rfl) rfl ?_
  refine ew_callS (t := 9) (As := [_, _, _]) (al_cp20 hn) (lw_S q644 q645 q69 q646) naJ7_copyOf_2 dJ7_copyOf_6 rfl (Nat.le_of_ble_eq_true rfl) (Nat.le_of_ble_eq_true rfl) (by omega) (by omega) (Nat.le_of_ble_eq_true rfl) rfl (qr ?_)
  exact ew_aret rfl (Or.inr ⟨_, rfl⟩) dJ7_copyOf_9 (by decide) (by decide) ⟨rfl, rfl, rfl⟩
set_option maxHeartbeats 600000 in
theorem al_cp11 {l : Launch} {G : GW} {h : AH} {n : Nat} {e np ci Nf : Nat} {C : String} {Tf : u_T} {f : Nat → Option Nat} (hn : 63 ≤ n) (hen : e < n) (hnp : np ≤ 10) (xe : h e = some (RA 10 f)) (hcl : vwCl[ci]? = some (C, Tf, Nf)) (hcast : Cond.castable C "java/lang/Object" ∈ lw_tbl) (hel : ∀ j, j < np → ∀ q, f j = some q → q < n ∧ ∃ vs, h q = some (OB ci vs)) : AM l G yJ7_copyOf cJ7_copyOf 2 (some (.array (.object "java/lang/Object"))) 2 1 10 [.ref e, .int (nI np)] h n (Qr n (hov h [(n, RA np (va_cpy f (fun _ => none) 0 0 np))]) (n + 1)) := by
  refine AM.of (L := [some (.ref e), some (.int (nI np))]) (by decide) (Nat.le_of_ble_eq_true rfl) rfl ?_
  refine ew_aload_n (t := 1) dJ7_copyOf_0 rfl rfl rfl ?_
  refine ew_iload_n (t := 2) dJ7_copyOf_1 rfl rfl rfl ?_
  refine ew_aload_n (t := 3) dJ7_copyOf_2 rfl rfl rfl ?_
  refine ew_getC (t := 6) (N := 10) (f := f) (Or.inr xe) q622 q1435 q1434 q623 q643 dJ7_copyOf_3 (Nat.le_of_ble_eq_true rfl) (Nat.le_of_ble_eq_true rfl) rfl ?_
  refine ew_callS (t := 9) (As := [_, _, _]) (al_cp21 hn hen hnp xe hcl hcast hel) (lw_S q644 q645 q69 q646) naJ7_copyOf_2 dJ7_copyOf_6 rfl (Nat.le_of_ble_eq_true rfl) (Nat.le_of_ble_eq_true rfl) (by omega) (by omega) (Nat.le_of_ble_eq_true rfl) rfl (qr ?_)
  exact ew_aret rfl (Or.inr ⟨_, rfl⟩) dJ7_copyOf_9 (by decide) (by decide) ⟨rfl, rfl, rfl⟩
set_option maxHeartbeats 600000 in
theorem al_to0 {l : Launch} {G : GW} {h : AH} {n : Nat} {c : Nat} {mo : Int32} (hn : 63 ≤ n) (xc : h c = some (OB 12 [.int mo, .ref 0, .int 0])) : AM l G yJ2_toArray cJ2_toArray 1 (some (.array (.object "java/lang/Object"))) 3 1 10 [.ref c] h n (Qr n (hov h [(n, RA 0 (fun _ => none))]) (n + 1)) := by
  refine AM.of (L := [some (.ref c)]) (by decide) (Nat.le_of_ble_eq_true rfl) rfl ?_
  refine ew_aload_n (t := 1) dJ2_toArray_0 rfl rfl rfl ?_
  refine ew_get (t := 4) (j := 1) (v := .ref 0) fcJ2 xc (Nat.le_of_ble_eq_true rfl) q111 rfl dJ2_toArray_1 rfl ?_
  refine ew_aload_n (t := 5) dJ2_toArray_4 rfl rfl rfl ?_
  refine ew_get (t := 8) (j := 2) (v := .int 0) fcJ2 xc (Nat.le_of_ble_eq_true rfl) q112 rfl dJ2_toArray_5 rfl ?_
  refine ew_callS (t := 11) (As := [_, _]) (al_cp10 hn) (lw_S q619 q620 q69 q621) naJ7_copyOf dJ2_toArray_8 rfl (Nat.le_of_ble_eq_true rfl) (Nat.le_of_ble_eq_true rfl) (by omega) (by omega) (Nat.le_of_ble_eq_true rfl) rfl (qr ?_)
  exact ew_aret rfl (Or.inr ⟨_, rfl⟩) dJ2_toArray_11 (by decide) (by decide) ⟨rfl, rfl, rfl⟩
set_option maxHeartbeats 600000 in
theorem al_to1 {l : Launch} {G : GW} {h : AH} {n : Nat} {c : Nat} {mo : Int32} {e np ci Nf : Nat} {C : String} {Tf : u_T} {f : Nat → Option Nat} (hn : 63 ≤ n) (hen : e < n) (hnp : np ≤ 10) (xe : h e = some (RA 10 f)) (hcl : vwCl[ci]? = some (C, Tf, Nf)) (hcast : Cond.castable C "java/lang/Object" ∈ lw_tbl) (hel : ∀ j, j < np → ∀ q, f j = some q → q < n ∧ ∃ vs, h q = some (OB ci vs)) (xc : h c = some (OB 12 [.int mo, .ref e, .int (nI np)])) : AM l G yJ2_toArray cJ2_toArray 1 (some (.array (.object "java/lang/Object"))) 3 1 10 [.ref c] h n (Qr n (hov h [(n, RA np (va_cpy f (fun _ => none) 0 0 np))]) (n + 1)) := by
  refine AM.of (L := [some (.ref c)]) (by decide) (Nat.le_of_ble_eq_true rfl) rfl ?_
  refine ew_aload_n (t := 1) dJ2_toArray_0 rfl rfl rfl ?_
  refine ew_get (t := 4) (j := 1) (v := .ref e) fcJ2 xc (Nat.le_of_ble_eq_true rfl) q111 rfl dJ2_toArray_1 rfl ?_
  refine ew_aload_n (t := 5) dJ2_toArray_4 rfl rfl rfl ?_
  refine ew_get (t := 8) (j := 2) (v := .int (nI np)) fcJ2 xc (Nat.le_of_ble_eq_true rfl) q112 rfl dJ2_toArray_5 rfl ?_
  refine ew_callS (t := 11) (As := [_, _]) (al_cp11 hn hen hnp xe hcl hcast hel) (lw_S q619 q620 q69 q621) naJ7_copyOf dJ2_toArray_8 rfl (Nat.le_of_ble_eq_true rfl) (Nat.le_of_ble_eq_true rfl) (by omega) (by omega) (Nat.le_of_ble_eq_true rfl) rfl (qr ?_)
  exact ew_aret rfl (Or.inr ⟨_, rfl⟩) dJ2_toArray_11 (by decide) (by decide) ⟨rfl, rfl, rfl⟩
set_option maxHeartbeats 600000 in
theorem al_i0 {l : Launch} {G : GW} {h : AH} {n : Nat} {c : Nat} : AM l G yJ0_init cJ0_init 1 none 1 0 0 [.ref c] h n (Qv h n) := by
  refine AM.of (L := [some (.ref c)]) (by decide) (Nat.le_of_ble_eq_true rfl) rfl ?_
  refine ew_aload_n (t := 1) dJ0_init_0 rfl rfl rfl ?_
  refine ew_objInit (t := 4) q108 q89 q90 dJ0_init_1 (by decide) (by decide) rfl ?_
  exact ew_vret rfl dJ0_init_4 (Nat.le_refl _) (Nat.le_refl _) ⟨rfl, rfl, rfl⟩
