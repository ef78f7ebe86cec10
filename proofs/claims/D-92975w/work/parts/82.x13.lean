-- Obj fields dict_keys(['cls', 'fun', 'sname', 'refs', 'extra', 'ups'])
/-! ArrayList: addAll, its constructor -/
set_option maxRecDepth 100000
theorem fw_size : fwl[0] ∈ fwl := List.mem_cons_self
theorem fw_add : fwl[1] ∈ fwl := (List.mem_cons_of_mem _ List.mem_cons_self)
theorem fw_get : fwl[2] ∈ fwl := (List.mem_cons_of_mem _ (List.mem_cons_of_mem _ List.mem_cons_self))
theorem fw_clear : fwl[3] ∈ fwl := (List.mem_cons_of_mem _ (List.mem_cons_of_mem _ (List.mem_cons_of_mem _ List.mem_cons_self)))
theorem fw_addAll : fwl[4] ∈ fwl := (List.mem_cons_of_mem _ (List.mem_cons_of_mem _ (List.mem_cons_of_mem _ (List.mem_cons_of_mem _ List.mem_cons_self))))
theorem fw_toArray : fwl[5] ∈ fwl := (List.mem_cons_of_mem _ (List.mem_cons_of_mem _ (List.mem_cons_of_mem _ (List.mem_cons_of_mem _ (List.mem_cons_of_mem _ List.mem_cons_self)))))
set_option maxHeartbeats 600000 in
theorem al_allA {l : Launch} {G : GW} {h : AH} {n : Nat} {c d ed e : Nat} {mo modd : Int32} {vd : Value} {g : Nat → Option Nat} (hn : 63 ≤ n) (hcn : c < n) (hdn : d < n) (hdc : ¬ d = c) (xd : h d = some (OB 12 [.int modd, .ref ed, vd])) (hTA : AM l G yJ2_toArray cJ2_toArray 1 (some (.array (.object "java/lang/Object"))) 3 1 10 [.ref d] h n (Qr n (hov h [(n, RA 0 g)]) (n + 1))) (xc : h c = some (OB 12 [.int mo, .ref e, .int 0])) : AM l G yJ2_addAll cJ2_addAll 6 (some .boolean) 5 2 20 [.ref c, .ref d] h n (Qi 0 (hov h [(n, RA 0 g), (c, OB 12 [.int (mo + 1), .ref e, .int 0])]) (n + 1)) := by
  refine AM.of (L := [some (.ref c), some (.ref d), none, none, none, none]) (by decide) (Nat.le_of_ble_eq_true rfl) rfl ?_
  refine ew_aload_n (t := 1) dJ2_addAll_0 rfl rfl rfl ?_
  refine ew_callF (t := 6) (As := []) (hTA) (fcJ2).1 xd (lw_F q879 q883 q885 q55 q887) fw_toArray naI_J2_toArray dJ2_addAll_1 rfl (Nat.le_of_ble_eq_true rfl) (Nat.le_of_ble_eq_true rfl) (by omega) (by omega) (Nat.le_of_ble_eq_true rfl) rfl (qr ?_)
  refine ew_astore_n (t := 7) (L' := [some (.ref c), some (.ref d), some (.ref n), none, none, none]) dJ2_addAll_6 rfl (Nat.le_of_ble_eq_true rfl) rfl rfl ?_
  refine ew_aload_n (t := 8) dJ2_addAll_7 rfl rfl rfl ?_
  refine ew_dup (t := 9) dJ2_addAll_8 rfl rfl ?_
  refine ew_getM (t := 12) ((hv_miss (by omega)).trans xc) q114 dJ2_addAll_9 rfl ?_
  refine ew_ic1 (t := 13) dJ2_addAll_12 rfl ?_
  refine ew_iadd (t := 14) dJ2_addAll_13 rfl ?_
  refine ew_putM (t := 17) (h' := (hov h [(n, RA 0 g), (c, OB 12 [.int (mo + 1), .ref e, .int 0])])) ((hv_miss (by omega)).trans xc) q114 dJ2_addAll_14 (hov_set_miss (by omega) hov_set_nil) rfl ?_
  refine ew_aload_n (t := 18) dJ2_addAll_17 rfl rfl rfl ?_
  refine ew_alen (t := 19) (v := 0) hv_hit (Nat.le_of_ble_eq_true rfl) rfl dJ2_addAll_18 rfl ?_
  refine ew_istore_n (t := 20) (L' := [some (.ref c), some (.ref d), some (.ref n), some (.int 0), none, none]) dJ2_addAll_19 rfl (Nat.le_of_ble_eq_true rfl) rfl rfl ?_
  refine ew_iload_n (t := 21) dJ2_addAll_20 rfl rfl rfl ?_
  refine ew_if_ne (t := 26) (t2 := 24) dJ2_addAll_21 rfl rfl (fun c_21 => ?_) (fun c_21 => ?_)
  · exact absurd c_21 (by decide)
  · refine ew_ic0 (t := 25) dJ2_addAll_24 rfl ?_
    exact ew_zret rfl (by decide) dJ2_addAll_25 (by decide) (by decide) ⟨rfl, rfl, rfl⟩
theorem hov_ov3 {h : AH} {a b c : Nat} {x y z u : AC} (hab : ¬ a = b) (hac : ¬ a = c) (hbc : ¬ b = c) : hov (hov h [(a, x), (c, y)]) [(b, z), (c, u)] = hov h [(a, x), (c, u), (b, z)] := by
  funext k
  by_cases h1 : k = b
  · rw [h1, hv_hit, hv_miss (fun q => hab q.symm), hv_miss hbc, hv_hit]
  · rw [hv_miss h1]
    by_cases h2 : k = c
    · rw [h2, hv_hit, hv_miss (fun q => hac q.symm), hv_hit]
    · rw [hv_miss h2]
      show hov h [(a, x), (c, y)] k = _
      by_cases h3 : k = a
      · rw [h3, hv_hit, hv_hit]
      · rw [hv_miss h3, hv_miss h2, hv_miss h3, hv_miss h2, hv_miss h1]
set_option maxHeartbeats 600000 in
theorem al_allB {l : Launch} {G : GW} {h : AH} {n : Nat} {c d ed np : Nat} {mo modd : Int32} {vd : Value} {g : Nat → Option Nat} (hn : 63 ≤ n) (hcn : c < n) (hdn : d < n) (hdc : ¬ d = c) (xd : h d = some (OB 12 [.int modd, .ref ed, vd])) (hTA : AM l G yJ2_toArray cJ2_toArray 1 (some (.array (.object "java/lang/Object"))) 3 1 10 [.ref d] h n (Qr n (hov h [(n, RA np g)]) (n + 1))) {ci Nf : Nat} {C : String} {Tf : u_T} (h0 : 0 < np) (hnp : np ≤ 4) (hcl : vwCl[ci]? = some (C, Tf, Nf)) (hcast : Cond.castable C "java/lang/Object" ∈ lw_tbl) (hel : ∀ j, j < np → ∀ q, g j = some q → q < n ∧ ¬ q = c ∧ ∃ vs, h q = some (OB ci vs)) (xc : h c = some (OB 12 [.int mo, .ref 0, .int 0])) : AM l G yJ2_addAll cJ2_addAll 6 (some .boolean) 5 2 20 [.ref c, .ref d] h n (Qi 1 (hov h [(n, RA np g), (c, OB 12 [.int (mo + 1), .ref (n + 1), .int (nI np)]), ((n + 1), RA 10 (va_cpy g (fun _ => none) 0 0 np))]) (n + 1 + 1)) := by
  refine AM.of (L := [some (.ref c), some (.ref d), none, none, none, none]) (by decide) (Nat.le_of_ble_eq_true rfl) rfl ?_
  refine ew_aload_n (t := 1) dJ2_addAll_0 rfl rfl rfl ?_
  refine ew_callF (t := 6) (As := []) (hTA) (fcJ2).1 xd (lw_F q879 q883 q885 q55 q887) fw_toArray naI_J2_toArray dJ2_addAll_1 rfl (Nat.le_of_ble_eq_true rfl) (Nat.le_of_ble_eq_true rfl) (by omega) (by omega) (Nat.le_of_ble_eq_true rfl) rfl (qr ?_)
  refine ew_astore_n (t := 7) (L' := [some (.ref c), some (.ref d), some (.ref n), none, none, none]) dJ2_addAll_6 rfl (Nat.le_of_ble_eq_true rfl) rfl rfl ?_
  refine ew_aload_n (t := 8) dJ2_addAll_7 rfl rfl rfl ?_
  refine ew_dup (t := 9) dJ2_addAll_8 rfl rfl ?_
  refine ew_getM (t := 12) ((hv_miss (by omega)).trans xc) q114 dJ2_addAll_9 rfl ?_
  refine ew_ic1 (t := 13) dJ2_addAll_12 rfl ?_
  refine ew_iadd (t := 14) dJ2_addAll_13 rfl ?_
  refine ew_putM (t := 17) (h' := (hov h [(n, RA np g), (c, OB 12 [.int (mo + 1), .ref 0, .int 0])])) ((hv_miss (by omega)).trans xc) q114 dJ2_addAll_14 (hov_set_miss (by omega) hov_set_nil) rfl ?_
  refine ew_aload_n (t := 18) dJ2_addAll_17 rfl rfl rfl ?_
  refine ew_alen (t := 19) (v := (nI np)) hv_hit (Nat.le_of_ble_eq_true rfl) rfl dJ2_addAll_18 rfl ?_
  refine ew_istore_n (t := 20) (L' := [some (.ref c), some (.ref d), some (.ref n), some (.int (nI np)), none, none]) dJ2_addAll_19 rfl (Nat.le_of_ble_eq_true rfl) rfl rfl ?_
  refine ew_iload_n (t := 21) dJ2_addAll_20 rfl rfl rfl ?_
  refine ew_if_ne (t := 26) (t2 := 24) dJ2_addAll_21 rfl rfl (fun c_21 => ?_) (fun c_21 => ?_)
  · refine ew_iload_n (t := 27) dJ2_addAll_26 rfl rfl rfl ?_
    refine ew_aload_n (t := 28) dJ2_addAll_27 rfl rfl rfl ?_
    refine ew_get (t := 31) (j := 1) (v := .ref 0) fcJ2 ((hv_miss (by omega)).trans hv_hit) (Nat.le_of_ble_eq_true rfl) q111 rfl dJ2_addAll_28 rfl ?_
    refine ew_dup (t := 32) dJ2_addAll_31 rfl rfl ?_
    refine ew_astore (t := 34) (L' := [some (.ref c), some (.ref d), some (.ref n), some (.int (nI np)), some (.ref 0), none]) dJ2_addAll_32 (Nat.le_of_ble_eq_true rfl) rfl rfl ?_
    refine ew_alen0 (t := 35) dJ2_addAll_34 rfl ?_
    refine ew_aload_n (t := 36) dJ2_addAll_35 rfl rfl rfl ?_
    refine ew_get (t := 39) (j := 2) (v := .int 0) fcJ2 ((hv_miss (by omega)).trans hv_hit) (Nat.le_of_ble_eq_true rfl) q112 rfl dJ2_addAll_36 rfl ?_
    refine ew_dup (t := 40) dJ2_addAll_39 rfl rfl ?_
    refine ew_istore (t := 42) (L' := [some (.ref c), some (.ref d), some (.ref n), some (.int (nI np)), some (.ref 0), some (.int 0)]) dJ2_addAll_40 (Nat.le_of_ble_eq_true rfl) rfl rfl ?_
    refine ew_isub (t := 43) dJ2_addAll_42 rfl ?_
    refine ew_icmp_le (t := 56) (t2 := 46) dJ2_addAll_43 rfl rfl (fun c_43 => ?_) (fun c_43 => ?_)
    · exact absurd c_43 (show ¬ nI np ≤ (0 : Int32) - 0 from nI_nle h0 (by omega))
    · refine ew_aload_n (t := 47) dJ2_addAll_46 rfl rfl rfl ?_
      refine ew_iload (t := 49) dJ2_addAll_47 rfl rfl ?_
      refine ew_iload_n (t := 50) dJ2_addAll_49 rfl rfl rfl ?_
      refine ew_iadd (t := 51) dJ2_addAll_50 rfl ?_
      rw [show (0 : Int32) + nI np = nI np from Int32.zero_add _]
      refine ew_callV (t := 54) (As := [_]) (al_grow2 (h := (hov h [(n, RA np g), (c, OB 12 [.int (mo + 1), .ref 0, .int 0])])) (n := n + 1) (np := 0) (q := np) (by omega) (by omega) (by omega) ((hv_miss (by omega)).trans hv_hit)) (fcJ2).1 ((hv_miss (by omega)).trans hv_hit) (lw_V q605 q607 qs20 q55 q608) rfl naJ2_grow_2 dJ2_addAll_51 rfl (Nat.le_of_ble_eq_true rfl) (Nat.le_of_ble_eq_true rfl) (by omega) (by omega) (Nat.le_of_ble_eq_true rfl) rfl (qr ?_)
      refine EW.heap (h' := (hov h [(n, RA np g), (c, OB 12 [.int (mo + 1), .ref (n + 1), .int 0]), ((n + 1), RA 10 (fun _ => none))])) (hov_ov3 (by omega) (by omega) (by omega)) ?_
      refine ew_astore (t := 56) (L' := [some (.ref c), some (.ref d), some (.ref n), some (.int (nI np)), some (.ref (n + 1)), some (.int 0)]) dJ2_addAll_54 (Nat.le_of_ble_eq_true rfl) rfl rfl ?_
      refine ew_aload_n (t := 57) dJ2_addAll_56 rfl rfl rfl ?_
      refine ew_ic0 (t := 58) dJ2_addAll_57 rfl ?_
      refine ew_aload (t := 60) dJ2_addAll_58 rfl rfl ?_
      refine ew_iload (t := 62) dJ2_addAll_60 rfl rfl ?_
      refine ew_iload_n (t := 63) dJ2_addAll_62 rfl rfl rfl ?_
      refine ew_copyR (t := 66) (sp := 0) (dp := 0) (N := np) (h' := (hov h [(n, RA np g), (c, OB 12 [.int (mo + 1), .ref (n + 1), .int 0]), ((n + 1), RA 10 (va_cpy g (fun _ => none) 0 0 np))])) q888 q359 q358 q61 hv_hit ((hv_miss (by omega)).trans ((hv_miss (by omega)).trans hv_hit)) hcl hcast (fun j hj q hq => by obtain ⟨h7, h8, vs, h9⟩ := hel j hj q (by rw [← hq]; congr 1; omega); exact ⟨vs, (hv_miss (by omega)).trans ((hv_miss (by omega)).trans ((hv_miss (by omega)).trans (h9)))⟩) (by decide) (by decide) (nI_pos (by omega)) (by decide) (by decide) (nI_clamp (by omega)) (by omega) (by omega) dJ2_addAll_63 (Nat.le_of_ble_eq_true rfl) (Nat.le_of_ble_eq_true rfl) (hov_set_miss (by omega) (hov_set_miss (by omega) hov_set_hit)) rfl ?_
      refine ew_aload_n (t := 67) dJ2_addAll_66 rfl rfl rfl ?_
      refine ew_iload (t := 69) dJ2_addAll_67 rfl rfl ?_
      refine ew_iload_n (t := 70) dJ2_addAll_69 rfl rfl rfl ?_
      refine ew_iadd (t := 71) dJ2_addAll_70 rfl ?_
      rw [show (0 : Int32) + nI np = nI np from Int32.zero_add _]
      refine ew_put (t := 74) (j := 2) (fs' := [.int (mo + 1), .ref (n + 1), .int (nI np)]) (h' := (hov h [(n, RA np g), (c, OB 12 [.int (mo + 1), .ref (n + 1), .int (nI np)]), ((n + 1), RA 10 (va_cpy g (fun _ => none) 0 0 np))])) fcJ2 ((hv_miss (by omega)).trans hv_hit) (Nat.le_of_ble_eq_true rfl) rfl q112 rfl rfl (Nat.le_of_ble_eq_true rfl) rfl dJ2_addAll_71 (hov_set_miss (by omega) hov_set_hit) rfl ?_
      refine ew_ic1 (t := 75) dJ2_addAll_74 rfl ?_
      exact ew_zret rfl (by decide) dJ2_addAll_75 (by decide) (by decide) ⟨rfl, rfl, rfl⟩
  · exact absurd c_21 (nI_ne0 h0 (by omega))
set_option maxHeartbeats 600000 in
theorem al_allC {l : Launch} {G : GW} {h : AH} {n : Nat} {c d ed e np : Nat} {mo modd : Int32} {vd : Value} {g : Nat → Option Nat} (hn : 63 ≤ n) (hcn : c < n) (hdn : d < n) (hdc : ¬ d = c) (xd : h d = some (OB 12 [.int modd, .ref ed, vd])) (hTA : AM l G yJ2_toArray cJ2_toArray 1 (some (.array (.object "java/lang/Object"))) 3 1 10 [.ref d] h n (Qr n (hov h [(n, RA np g)]) (n + 1))) {ci Nf : Nat} {C : String} {Tf : u_T} (h0 : 0 < np) (hnp : np ≤ 4) (hcl : vwCl[ci]? = some (C, Tf, Nf)) (hcast : Cond.castable C "java/lang/Object" ∈ lw_tbl) (hel : ∀ j, j < np → ∀ q, g j = some q → q < n ∧ ¬ q = c ∧ ¬ q = e ∧ ∃ vs, h q = some (OB ci vs)) {f : Nat → Option Nat} (hen : e < n) (hec : ¬ e = c) (xc : h c = some (OB 12 [.int mo, .ref e, .int 0])) (xe : h e = some (RA 10 f)) : AM l G yJ2_addAll cJ2_addAll 6 (some .boolean) 5 2 20 [.ref c, .ref d] h n (Qi 1 (hov h [(n, RA np g), (c, OB 12 [.int (mo + 1), .ref e, .int (nI np)]), (e, RA 10 (va_cpy g f 0 0 np))]) (n + 1)) := by
  refine AM.of (L := [some (.ref c), some (.ref d), none, none, none, none]) (by decide) (Nat.le_of_ble_eq_true rfl) rfl ?_
  refine ew_aload_n (t := 1) dJ2_addAll_0 rfl rfl rfl ?_
  refine ew_callF (t := 6) (As := []) (hTA) (fcJ2).1 xd (lw_F q879 q883 q885 q55 q887) fw_toArray naI_J2_toArray dJ2_addAll_1 rfl (Nat.le_of_ble_eq_true rfl) (Nat.le_of_ble_eq_true rfl) (by omega) (by omega) (Nat.le_of_ble_eq_true rfl) rfl (qr ?_)
  refine ew_astore_n (t := 7) (L' := [some (.ref c), some (.ref d), some (.ref n), none, none, none]) dJ2_addAll_6 rfl (Nat.le_of_ble_eq_true rfl) rfl rfl ?_
  refine ew_aload_n (t := 8) dJ2_addAll_7 rfl rfl rfl ?_
  refine ew_dup (t := 9) dJ2_addAll_8 rfl rfl ?_
  refine ew_getM (t := 12) ((hv_miss (by omega)).trans xc) q114 dJ2_addAll_9 rfl ?_
  refine ew_ic1 (t := 13) dJ2_addAll_12 rfl ?_
  refine ew_iadd (t := 14) dJ2_addAll_13 rfl ?_
  refine ew_putM (t := 17) (h' := (hov h [(n, RA np g), (c, OB 12 [.int (mo + 1), .ref e, .int 0])])) ((hv_miss (by omega)).trans xc) q114 dJ2_addAll_14 (hov_set_miss (by omega) hov_set_nil) rfl ?_
  refine ew_aload_n (t := 18) dJ2_addAll_17 rfl rfl rfl ?_
  refine ew_alen (t := 19) (v := (nI np)) hv_hit (Nat.le_of_ble_eq_true rfl) rfl dJ2_addAll_18 rfl ?_
  refine ew_istore_n (t := 20) (L' := [some (.ref c), some (.ref d), some (.ref n), some (.int (nI np)), none, none]) dJ2_addAll_19 rfl (Nat.le_of_ble_eq_true rfl) rfl rfl ?_
  refine ew_iload_n (t := 21) dJ2_addAll_20 rfl rfl rfl ?_
  refine ew_if_ne (t := 26) (t2 := 24) dJ2_addAll_21 rfl rfl (fun c_21 => ?_) (fun c_21 => ?_)
  · refine ew_iload_n (t := 27) dJ2_addAll_26 rfl rfl rfl ?_
    refine ew_aload_n (t := 28) dJ2_addAll_27 rfl rfl rfl ?_
    refine ew_get (t := 31) (j := 1) (v := .ref e) fcJ2 ((hv_miss (by omega)).trans hv_hit) (Nat.le_of_ble_eq_true rfl) q111 rfl dJ2_addAll_28 rfl ?_
    refine ew_dup (t := 32) dJ2_addAll_31 rfl rfl ?_
    refine ew_astore (t := 34) (L' := [some (.ref c), some (.ref d), some (.ref n), some (.int (nI np)), some (.ref e), none]) dJ2_addAll_32 (Nat.le_of_ble_eq_true rfl) rfl rfl ?_
    refine ew_alen (t := 35) (v := 10) ((hv_miss (by omega)).trans ((hv_miss (by omega)).trans xe)) (Nat.le_of_ble_eq_true rfl) rfl dJ2_addAll_34 rfl ?_
    refine ew_aload_n (t := 36) dJ2_addAll_35 rfl rfl rfl ?_
    refine ew_get (t := 39) (j := 2) (v := .int 0) fcJ2 ((hv_miss (by omega)).trans hv_hit) (Nat.le_of_ble_eq_true rfl) q112 rfl dJ2_addAll_36 rfl ?_
    refine ew_dup (t := 40) dJ2_addAll_39 rfl rfl ?_
    refine ew_istore (t := 42) (L' := [some (.ref c), some (.ref d), some (.ref n), some (.int (nI np)), some (.ref e), some (.int 0)]) dJ2_addAll_40 (Nat.le_of_ble_eq_true rfl) rfl rfl ?_
    refine ew_isub (t := 43) dJ2_addAll_42 rfl ?_
    refine ew_icmp_le (t := 56) (t2 := 46) dJ2_addAll_43 rfl rfl (fun c_43 => ?_) (fun c_43 => ?_)
    · refine ew_aload_n (t := 57) dJ2_addAll_56 rfl rfl rfl ?_
      refine ew_ic0 (t := 58) dJ2_addAll_57 rfl ?_
      refine ew_aload (t := 60) dJ2_addAll_58 rfl rfl ?_
      refine ew_iload (t := 62) dJ2_addAll_60 rfl rfl ?_
      refine ew_iload_n (t := 63) dJ2_addAll_62 rfl rfl rfl ?_
      refine ew_copyR (t := 66) (sp := 0) (dp := 0) (N := np) (h' := (hov h [(n, RA np g), (c, OB 12 [.int (mo + 1), .ref e, .int 0]), (e, RA 10 (va_cpy g f 0 0 np))])) q888 q359 q358 q61 hv_hit ((hv_miss (by omega)).trans ((hv_miss (by omega)).trans xe)) hcl hcast (fun j hj q hq => by obtain ⟨h7, h8, h8', vs, h9⟩ := hel j hj q (by rw [← hq]; congr 1; omega); exact ⟨vs, (hv_miss (by omega)).trans ((hv_miss (by omega)).trans (h9))⟩) (by decide) (by decide) (nI_pos (by omega)) (by decide) (by decide) (nI_clamp (by omega)) (by omega) (by omega) dJ2_addAll_63 (Nat.le_of_ble_eq_true rfl) (Nat.le_of_ble_eq_true rfl) (hov_set_miss (by omega) (hov_set_miss (by omega) hov_set_nil)) rfl ?_
      refine ew_aload_n (t := 67) dJ2_addAll_66 rfl rfl rfl ?_
      refine ew_iload (t := 69) dJ2_addAll_67 rfl rfl ?_
      refine ew_iload_n (t := 70) dJ2_addAll_69 rfl rfl rfl ?_
      refine ew_iadd (t := 71) dJ2_addAll_70 rfl ?_
      rw [show (0 : Int32) + nI np = nI np from Int32.zero_add _]
      refine ew_put (t := 74) (j := 2) (fs' := [.int (mo + 1), .ref e, .int (nI np)]) (h' := (hov h [(n, RA np g), (c, OB 12 [.int (mo + 1), .ref e, .int (nI np)]), (e, RA 10 (va_cpy g f 0 0 np))])) fcJ2 ((hv_miss (by omega)).trans hv_hit) (Nat.le_of_ble_eq_true rfl) rfl q112 rfl rfl (Nat.le_of_ble_eq_true rfl) rfl dJ2_addAll_71 (hov_set_miss (by omega) hov_set_hit) rfl ?_
      refine ew_ic1 (t := 75) dJ2_addAll_74 rfl ?_
      exact ew_zret rfl (by decide) dJ2_addAll_75 (by decide) (by decide) ⟨rfl, rfl, rfl⟩
    · exact absurd (show nI np ≤ (10 : Int32) - 0 from nI_le (b := 10) (by omega) (by omega)) c_43
  · exact absurd c_21 (nI_ne0 h0 (by omega))
set_option maxHeartbeats 600000 in
theorem al_i1 {l : Launch} {G : GW} {h : AH} {n : Nat} {c : Nat} {x : Int32} {v1 v2 : Value} (xc : h c = some (OB 12 [.int x, v1, v2])) : AM l G yJ1_init cJ1_init 1 none 2 0 0 [.ref c] h n (Qv (hov h [(c, OB 12 [.int 0, v1, v2])]) n) := by
  refine AM.of (L := [some (.ref c)]) (by decide) (Nat.le_of_ble_eq_true rfl) rfl ?_
  refine ew_aload_n (t := 1) dJ1_init_0 rfl rfl rfl ?_
  refine ew_callI (t := 4) (As := []) (al_i0) q105 q106 q53 q107 rfl naJ0_init dJ1_init_1 rfl (Nat.le_of_ble_eq_true rfl) (Nat.le_of_ble_eq_true rfl) (Nat.le_refl _) (Nat.le_refl _) (Nat.le_of_ble_eq_true rfl) rfl (qv ?_)
  refine ew_aload_n (t := 5) dJ1_init_4 rfl rfl rfl ?_
  refine ew_ic0 (t := 6) dJ1_init_5 rfl ?_
  refine ew_put (t := 9) (j := 0) (fs' := [.int 0, v1, v2]) (h' := (hov h [(c, OB 12 [.int 0, v1, v2])])) fcJ2 xc (Nat.le_of_ble_eq_true rfl) rfl q113 rfl rfl (Nat.le_of_ble_eq_true rfl) rfl dJ1_init_6 hov_up0 rfl ?_
  exact ew_vret rfl dJ1_init_9 (Nat.le_refl _) (Nat.le_refl _) ⟨rfl, rfl, rfl⟩
