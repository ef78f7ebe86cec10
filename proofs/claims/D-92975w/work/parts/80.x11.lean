-- Obj fields dict_keys(['cls', 'fun', 'sname', 'refs', 'extra', 'ups'])
/-! ArrayList: add, clear, toArray, addAll -/
set_option maxRecDepth 100000
section EW0
variable {l : Launch} {G : GW} {y : MethodName} {cc : ByteArray} {nL : Nat} {ret : Option FieldType} {fr mc ms : Nat} {Q : Option Value → AH → Nat → Prop} {k sl : Nat} {h : AH} {n pc t : Nat} {L : List (Option Value)} {st : List Value}
/-- nothing is copied out of the empty array -/
theorem ew_copy0 {i a n1 : Nat} {g : Nat → Option Nat} (hw : Cond.methodLink y.cls i arraycopyName ∈ lw_all) (hw2 : Cond.native arraycopyName ∈ lw_all) (hw3 : Cond.static arraycopyName ∈ lw_all) (hw4 : Cond.initialized "java/lang/System" ∈ lw_all) (ha : h a = some (RA n1 g)) (hd : decode cc pc = .ok (.invokestatic i, 3)) (hfr : 1 ≤ fr) (hst : (st.map fun v => v.category).sum ≤ 8) (hp : pc + 3 = t)
    (kk : EW l G y cc nL ret fr mc ms Q k sl h n t L st) : EW l G y cc nL ret fr mc ms Q k sl h n pc L (.int 0 :: .int 0 :: .ref a :: .int 0 :: .ref 0 :: st) := by
  subst hp
  intro p e s m args below meth c C1 H locs ls hR hS hl T hT X
  obtain ⟨cell, d1, d2, d3, d4, d5⟩ := dcell C1 hS
  have hc1 : H[rho G a]? = some (vp_cell (gA G 5) (n1, .inr (.inr (.inr (.inr (fun j => (g j).map (rho G))))))) := hR.2.2.2 a _ ha
  obtain ⟨-, k0, hk0, cm0, hkk0⟩ := (C1.2.2.2.2.1.2 5 _ rfl).1 0 (fun _ => .null)
  obtain ⟨-, k1, hk1, cm1, hkk1⟩ := (C1.2.2.2.2.1.2 5 _ rfl).1 n1 (fun j => va_rf ((g j).map (rho G)))
  obtain ⟨vm', X', step⟩ := X.arraycopy C1.1.1 C1.1.2.2.2.1 (C1.1.2.2.2.2 _ hw) (C1.1.2.2.2.2 _ hw2) (C1.1.2.2.2.2 _ hw3) (C1.1.2.2.2.2 _ hw4) (src := gd G) (dst := rho G a) (cs := cell) (cd := vp_cell (gA G 5) (n1, .inr (.inr (.inr (.inr (fun j => (g j).map (rho G))))))) (srcPos := 0) (destPos := 0) (n := 0) (by rw [hT]; exact d1) (by rw [hT]; exact hc1)
    d4 (fun _ h => by cases h) d3 (fun h => by cases h) (by rw [d2]; exact hk0) hk1 hkk0 hkk1 rfl (by decide) (by decide) (by decide)
    (by rw [d5]; decide)
    (by show ¬ _ > ((arrV (gA G 5) n1 (fun j => va_rf ((g j).map (rho G)))).slots.size : Int); rw [arrV_size]; simp)
    (fun vm₁ hal i hi => absurd hi (by simp))
    (g := F0 m pc ls (.int 0 :: .int 0 :: .ref (rho G a) :: .int 0 :: .ref (gd G) :: shs G st)) rfl (by rw [C1.1.2.2.1]; exact hl.1) (rest := shs G st) rfl (by rw [C1.1.2.1]; exact hd) hfr (by
      show 2 * 0 + ((shs G st).map fun v => v.category).sum + (nativeFrameWords "java/lang/System" "arraycopy" 5 + 11) ≤ 40 * fr
      rw [shs_cat]
      have := nfw_copy
      omega)
  have ee : copied cell (vp_cell (gA G 5) (n1, .inr (.inr (.inr (.inr (fun j => (g j).map (rho G))))))) 0 0 0 = vp_cell (gA G 5) (n1, .inr (.inr (.inr (.inr (fun j => (g j).map (rho G)))))) := rfl
  rw [ee] at X' step
  have hlt : rho G a < H.size := (Array.getElem?_eq_some_iff.mp hc1).1
  have oq : ∀ q : Nat, q ≠ rho G a → (H.setIfInBounds (rho G a) (vp_cell (gA G 5) (n1, .inr (.inr (.inr (.inr (fun j => (g j).map (rho G))))))))[q]? = H[q]? := fun q hq => by simp [Array.getElem?_setIfInBounds, Ne.symm hq]
  have hR2 := hR.set (H1 := H.setIfInBounds (rho G a) (vp_cell (gA G 5) (n1, .inr (.inr (.inr (.inr (fun j => (g j).map (rho G)))))))) (RA n1 g) ha (show (H.setIfInBounds (rho G a) _)[rho G a]? = some _ by simp [Array.getElem?_setIfInBounds, hlt]; rfl) (by simp) oq
  rw [va_up_id ha] at hR2
  obtain ⟨t2, a1, b1⟩ := kk p e s m args below meth c C1 (H.setIfInBounds (rho G a) (vp_cell (gA G 5) (n1, .inr (.inr (.inr (.inr (fun j => (g j).map (rho G)))))))) _ ls hR2
    ⟨by simp; exact hS.1, fun q g1 g2 => by
      rw [oq q (fun e => g2 (by rw [e]; exact hR.gw ha))]
      exact hS.2.1 q g1 g2, fun q hq => by
      rcases List.mem_append.mp hq with h | h
      · exact hS.2.2 q h
      · obtain ⟨z, -, hz⟩ := List.mem_map.mp h
        rw [← hz]
        exact hR.gw ha⟩ hl _ (by rw [← hT]; rfl) X'
  exact ⟨t2, step t2 a1, b1⟩
end EW0
def clN (f : Nat → Option Nat) : Nat → Nat → Option Nat
  | 0 => f
  | k + 1 => va_up (clN f k) k none
set_option maxHeartbeats 600000 in
theorem al_add20 {l : Launch} {G : GW} {h : AH} {n : Nat} {c : Nat} {mo : Int32} (hn : 63 ≤ n) (hcn : c < n) (xc : h c = some (OB 12 [.int mo, .ref 0, .int 0])) {ci Nf p : Nat} {C : String} {Tf : u_T} {vs : List Value} (hcl : vwCl[ci]? = some (C, Tf, Nf)) (hcast : Cond.castable C "java/lang/Object" ∈ lw_tbl) (xp : h p = some (OB ci vs)) (hpn : p < n) (hpc : ¬ p = c) : AM l G yJ2_add_2 cJ2_add_2 4 none 3 1 10 [.ref c, .ref p, .ref 0, .int 0] h n (Qv (hov h [(n, RA 10 (va_up (fun _ => none) 0 (some p))), (c, OB 12 [.int mo, .ref n, .int 1])]) (n + 1)) := by
  refine AM.of (L := [some (.ref c), some (.ref p), some (.ref 0), some (.int 0)]) (by decide) (Nat.le_of_ble_eq_true rfl) rfl ?_
  refine ew_iload_n (t := 1) dJ2_add_2_0 rfl rfl rfl ?_
  refine ew_aload_n (t := 2) dJ2_add_2_1 rfl rfl rfl ?_
  refine ew_alen0 (t := 3) dJ2_add_2_2 rfl ?_
  refine ew_icmp_ne (t := 11) (t2 := 6) dJ2_add_2_3 rfl rfl (fun c_3 => ?_) (fun c_3 => ?_)
  · exact absurd c_3 (by decide)
  · refine ew_aload_n (t := 7) dJ2_add_2_6 rfl rfl rfl ?_
    refine ew_callV (t := 10) (As := []) (al_grow (np := 0) hn hcn (by omega) xc) (fcJ2).1 xc (lw_V q601 q603 qs19 q55 q604) rfl naJ2_grow dJ2_add_2_7 rfl (Nat.le_of_ble_eq_true rfl) (Nat.le_of_ble_eq_true rfl) (by omega) (by omega) (Nat.le_of_ble_eq_true rfl) rfl (qr ?_)
    refine ew_astore_n (t := 11) (L' := [some (.ref c), some (.ref p), some (.ref n), some (.int 0)]) dJ2_add_2_10 rfl (Nat.le_of_ble_eq_true rfl) rfl rfl ?_
    refine ew_aload_n (t := 12) dJ2_add_2_11 rfl rfl rfl ?_
    refine ew_iload_n (t := 13) dJ2_add_2_12 rfl rfl rfl ?_
    refine ew_aload_n (t := 14) dJ2_add_2_13 rfl rfl rfl ?_
    refine ew_aast5 (t := 15) (j := 0) (h' := (hov h [(n, RA 10 (va_up (fun _ => none) 0 (some p))), (c, OB 12 [.int mo, .ref n, .int 0])])) hv_hit hcl ((hv_miss (by omega)).trans ((hv_miss (by omega)).trans xp)) hcast (vpI (by decide)) (by decide) dJ2_add_2_14 hov_set_hit rfl ?_
    refine ew_aload_n (t := 16) dJ2_add_2_15 rfl rfl rfl ?_
    refine ew_iload_n (t := 17) dJ2_add_2_16 rfl rfl rfl ?_
    refine ew_ic1 (t := 18) dJ2_add_2_17 rfl ?_
    refine ew_iadd (t := 19) dJ2_add_2_18 rfl ?_
    rw [show (0 : Int32) + 1 = 1 from rfl]
    refine ew_put (t := 22) (j := 2) (fs' := [.int mo, .ref n, .int 1]) (h' := (hov h [(n, RA 10 (va_up (fun _ => none) 0 (some p))), (c, OB 12 [.int mo, .ref n, .int 1])])) fcJ2 ((hv_miss (by omega)).trans hv_hit) (Nat.le_of_ble_eq_true rfl) rfl q112 rfl rfl (Nat.le_of_ble_eq_true rfl) rfl dJ2_add_2_19 (hov_set_miss (by omega) hov_set_hit) rfl ?_
    exact ew_vret rfl dJ2_add_2_22 (by decide) (by decide) ⟨rfl, rfl, rfl⟩
/-- a cell of the lower overlay that the upper one shadows -/
theorem hov_ov2 {h : AH} {a c : Nat} {x y z : AC} (hac : ¬ a = c) : hov (hov h [(c, x)]) [(a, y), (c, z)] = hov h [(a, y), (c, z)] := by
  funext k
  by_cases h1 : k = a
  · rw [h1, hv_hit, hv_hit]
  · rw [hv_miss h1, hv_miss h1]
    by_cases h2 : k = c
    · rw [h2, hv_hit, hv_hit]
    · rw [hv_miss h2, hv_miss h2]
      show hov h [(c, x)] k = h k
      rw [hv_miss h2]; rfl
set_option maxHeartbeats 600000 in
theorem al_add0 {l : Launch} {G : GW} {h : AH} {n : Nat} {c : Nat} {mo : Int32} (hn : 63 ≤ n) (hcn : c < n) (xc : h c = some (OB 12 [.int mo, .ref 0, .int 0])) {ci Nf p : Nat} {C : String} {Tf : u_T} {vs : List Value} (hcl : vwCl[ci]? = some (C, Tf, Nf)) (hcast : Cond.castable C "java/lang/Object" ∈ lw_tbl) (xp : h p = some (OB ci vs)) (hpn : p < n) (hpc : ¬ p = c) : AM l G yJ2_add cJ2_add 2 (some .boolean) 4 1 10 [.ref c, .ref p] h n (Qi 1 (hov h [(n, RA 10 (va_up (fun _ => none) 0 (some p))), (c, OB 12 [.int (mo + 1), .ref n, .int 1])]) (n + 1)) := by
  refine AM.of (L := [some (.ref c), some (.ref p)]) (by decide) (Nat.le_of_ble_eq_true rfl) rfl ?_
  refine ew_aload_n (t := 1) dJ2_add_0 rfl rfl rfl ?_
  refine ew_dup (t := 2) dJ2_add_1 rfl rfl ?_
  refine ew_getM (t := 5) xc q114 dJ2_add_2 rfl ?_
  refine ew_ic1 (t := 6) dJ2_add_5 rfl ?_
  refine ew_iadd (t := 7) dJ2_add_6 rfl ?_
  refine ew_putM (t := 10) (h' := (hov h [(c, OB 12 [.int (mo + 1), .ref 0, .int 0])])) xc q114 dJ2_add_7 hov_up0 rfl ?_
  refine ew_aload_n (t := 11) dJ2_add_10 rfl rfl rfl ?_
  refine ew_aload_n (t := 12) dJ2_add_11 rfl rfl rfl ?_
  refine ew_aload_n (t := 13) dJ2_add_12 rfl rfl rfl ?_
  refine ew_get (t := 16) (j := 1) (v := .ref 0) fcJ2 hv_hit (Nat.le_of_ble_eq_true rfl) q111 rfl dJ2_add_13 rfl ?_
  refine ew_aload_n (t := 17) dJ2_add_16 rfl rfl rfl ?_
  refine ew_get (t := 20) (j := 2) (v := .int 0) fcJ2 hv_hit (Nat.le_of_ble_eq_true rfl) q112 rfl dJ2_add_17 rfl ?_
  refine ew_callV (t := 23) (As := [_, _, _]) (al_add20 (h := (hov h [(c, OB 12 [.int (mo + 1), .ref 0, .int 0])])) (mo := (mo + 1)) hn hcn hv_hit hcl hcast ((hv_miss hpc).trans xp) hpn hpc) (fcJ2).1 hv_hit (lw_V q597 q599 qs18 q55 q600) rfl naJ2_add_2 dJ2_add_20 rfl (Nat.le_of_ble_eq_true rfl) (Nat.le_of_ble_eq_true rfl) (by omega) (by omega) (Nat.le_of_ble_eq_true rfl) rfl (qv ?_)
  refine EW.heap (h' := (hov h [(n, RA 10 (va_up (fun _ => none) 0 (some p))), (c, OB 12 [.int (mo + 1), .ref n, .int 1])])) (hov_ov2 (by omega)) ?_
  refine ew_ic1 (t := 24) dJ2_add_23 rfl ?_
  exact ew_zret rfl (by decide) dJ2_add_24 (by decide) (by decide) ⟨rfl, rfl, rfl⟩
set_option maxHeartbeats 600000 in
theorem al_add21 {l : Launch} {G : GW} {h : AH} {n : Nat} {c e np : Nat} {mo : Int32} {f : Nat → Option Nat} (hnp : np < 10) (hec : ¬ e = c) (xc : h c = some (OB 12 [.int mo, .ref e, .int (nI np)])) (xe : h e = some (RA 10 f)) {ci Nf p : Nat} {C : String} {Tf : u_T} {vs : List Value} (hcl : vwCl[ci]? = some (C, Tf, Nf)) (hcast : Cond.castable C "java/lang/Object" ∈ lw_tbl) (xp : h p = some (OB ci vs)) (hpc : ¬ p = c) (hpe : ¬ p = e) : AM l G yJ2_add_2 cJ2_add_2 4 none 3 0 0 [.ref c, .ref p, .ref e, .int (nI np)] h n (Qv (hov h [(e, RA 10 (va_up f np (some p))), (c, OB 12 [.int mo, .ref e, .int (nI (np + 1))])]) n) := by
  refine AM.of (L := [some (.ref c), some (.ref p), some (.ref e), some (.int (nI np))]) (by decide) (Nat.le_of_ble_eq_true rfl) rfl ?_
  refine ew_iload_n (t := 1) dJ2_add_2_0 rfl rfl rfl ?_
  refine ew_aload_n (t := 2) dJ2_add_2_1 rfl rfl rfl ?_
  refine ew_alen (t := 3) (v := 10) xe (Nat.le_of_ble_eq_true rfl) rfl dJ2_add_2_2 rfl ?_
  refine ew_icmp_ne (t := 11) (t2 := 6) dJ2_add_2_3 rfl rfl (fun c_3 => ?_) (fun c_3 => ?_)
  · refine ew_aload_n (t := 12) dJ2_add_2_11 rfl rfl rfl ?_
    refine ew_iload_n (t := 13) dJ2_add_2_12 rfl rfl rfl ?_
    refine ew_aload_n (t := 14) dJ2_add_2_13 rfl rfl rfl ?_
    refine ew_aast5 (t := 15) (j := np) (h' := (hov h [(e, RA 10 (va_up f np (some p)))])) xe hcl xp hcast (vp_in_nI (by omega) (by omega)) (nI_clamp (by omega)) dJ2_add_2_14 hov_up0 rfl ?_
    refine ew_aload_n (t := 16) dJ2_add_2_15 rfl rfl rfl ?_
    refine ew_iload_n (t := 17) dJ2_add_2_16 rfl rfl rfl ?_
    refine ew_ic1 (t := 18) dJ2_add_2_17 rfl ?_
    refine ew_iadd (t := 19) dJ2_add_2_18 rfl ?_
    rw [nI_1 np]
    refine ew_put (t := 22) (j := 2) (fs' := [.int mo, .ref e, .int (nI (np + 1))]) (h' := (hov h [(e, RA 10 (va_up f np (some p))), (c, OB 12 [.int mo, .ref e, .int (nI (np + 1))])])) fcJ2 ((hv_miss (by omega)).trans xc) (Nat.le_of_ble_eq_true rfl) rfl q112 rfl rfl (Nat.le_of_ble_eq_true rfl) rfl dJ2_add_2_19 (hov_set_miss (by omega) hov_set_nil) rfl ?_
    exact ew_vret rfl dJ2_add_2_22 (Nat.le_refl _) (Nat.le_refl _) ⟨rfl, rfl, rfl⟩
  · exact absurd c_3 (fun q => by have := congrArg Int32.toNatClampNeg q; rw [nI_clamp (by omega)] at this; have h9 : np = 10 := this; omega)
set_option maxHeartbeats 600000 in
theorem al_add1 {l : Launch} {G : GW} {h : AH} {n : Nat} {c e np : Nat} {mo : Int32} {f : Nat → Option Nat} (hnp : np < 10) (hec : ¬ e = c) (xc : h c = some (OB 12 [.int mo, .ref e, .int (nI np)])) (xe : h e = some (RA 10 f)) {ci Nf p : Nat} {C : String} {Tf : u_T} {vs : List Value} (hcl : vwCl[ci]? = some (C, Tf, Nf)) (hcast : Cond.castable C "java/lang/Object" ∈ lw_tbl) (xp : h p = some (OB ci vs)) (hpc : ¬ p = c) (hpe : ¬ p = e) : AM l G yJ2_add cJ2_add 2 (some .boolean) 4 0 0 [.ref c, .ref p] h n (Qi 1 (hov h [(e, RA 10 (va_up f np (some p))), (c, OB 12 [.int (mo + 1), .ref e, .int (nI (np + 1))])]) n) := by
  refine AM.of (L := [some (.ref c), some (.ref p)]) (by decide) (Nat.le_of_ble_eq_true rfl) rfl ?_
  refine ew_aload_n (t := 1) dJ2_add_0 rfl rfl rfl ?_
  refine ew_dup (t := 2) dJ2_add_1 rfl rfl ?_
  refine ew_getM (t := 5) xc q114 dJ2_add_2 rfl ?_
  refine ew_ic1 (t := 6) dJ2_add_5 rfl ?_
  refine ew_iadd (t := 7) dJ2_add_6 rfl ?_
  refine ew_putM (t := 10) (h' := (hov h [(c, OB 12 [.int (mo + 1), .ref e, .int (nI np)])])) xc q114 dJ2_add_7 hov_up0 rfl ?_
  refine ew_aload_n (t := 11) dJ2_add_10 rfl rfl rfl ?_
  refine ew_aload_n (t := 12) dJ2_add_11 rfl rfl rfl ?_
  refine ew_aload_n (t := 13) dJ2_add_12 rfl rfl rfl ?_
  refine ew_get (t := 16) (j := 1) (v := .ref e) fcJ2 hv_hit (Nat.le_of_ble_eq_true rfl) q111 rfl dJ2_add_13 rfl ?_
  refine ew_aload_n (t := 17) dJ2_add_16 rfl rfl rfl ?_
  refine ew_get (t := 20) (j := 2) (v := .int (nI np)) fcJ2 hv_hit (Nat.le_of_ble_eq_true rfl) q112 rfl dJ2_add_17 rfl ?_
  refine ew_callV (t := 23) (As := [_, _, _]) (al_add21 (h := (hov h [(c, OB 12 [.int (mo + 1), .ref e, .int (nI np)])])) (mo := (mo + 1)) hnp hec hv_hit ((hv_miss hec).trans xe) hcl hcast ((hv_miss hpc).trans xp) hpc hpe) (fcJ2).1 hv_hit (lw_V q597 q599 qs18 q55 q600) rfl naJ2_add_2 dJ2_add_20 rfl (Nat.le_of_ble_eq_true rfl) (Nat.le_of_ble_eq_true rfl) (Nat.le_refl _) (Nat.le_refl _) (Nat.le_of_ble_eq_true rfl) rfl (qv ?_)
  refine EW.heap (h' := (hov h [(e, RA 10 (va_up f np (some p))), (c, OB 12 [.int (mo + 1), .ref e, .int (nI (np + 1))])])) (hov_ov2 hec) ?_
  refine ew_ic1 (t := 24) dJ2_add_23 rfl ?_
  exact ew_zret rfl (by decide) dJ2_add_24 (Nat.le_refl _) (Nat.le_refl _) ⟨rfl, rfl, rfl⟩
set_option maxHeartbeats 600000 in
theorem al_clear0 {l : Launch} {G : GW} {h : AH} {n : Nat} {c : Nat} {mo : Int32} (xc : h c = some (OB 12 [.int mo, .ref 0, .int 0])) : AM l G yJ2_clear cJ2_clear 4 none 0 0 0 [.ref c] h n (Qv (hov h [(c, OB 12 [.int (mo + 1), .ref 0, .int 0])]) n) := by
  refine AM.of (L := [some (.ref c), none, none, none]) (by decide) (Nat.le_of_ble_eq_true rfl) rfl ?_
  refine ew_aload_n (t := 1) dJ2_clear_0 rfl rfl rfl ?_
  refine ew_dup (t := 2) dJ2_clear_1 rfl rfl ?_
  refine ew_getM (t := 5) xc q114 dJ2_clear_2 rfl ?_
  refine ew_ic1 (t := 6) dJ2_clear_5 rfl ?_
  refine ew_iadd (t := 7) dJ2_clear_6 rfl ?_
  refine ew_putM (t := 10) (h' := (hov h [(c, OB 12 [.int (mo + 1), .ref 0, .int 0])])) xc q114 dJ2_clear_7 hov_up0 rfl ?_
  refine ew_aload_n (t := 11) dJ2_clear_10 rfl rfl rfl ?_
  refine ew_get (t := 14) (j := 1) (v := .ref 0) fcJ2 hv_hit (Nat.le_of_ble_eq_true rfl) q111 rfl dJ2_clear_11 rfl ?_
  refine ew_astore_n (t := 15) (L' := [some (.ref c), some (.ref 0), none, none]) dJ2_clear_14 rfl (Nat.le_of_ble_eq_true rfl) rfl rfl ?_
  refine ew_aload_n (t := 16) dJ2_clear_15 rfl rfl rfl ?_
  refine ew_get (t := 19) (j := 2) (v := .int 0) fcJ2 hv_hit (Nat.le_of_ble_eq_true rfl) q112 rfl dJ2_clear_16 rfl ?_
  refine ew_istore_n (t := 20) (L' := [some (.ref c), some (.ref 0), some (.int 0), none]) dJ2_clear_19 rfl (Nat.le_of_ble_eq_true rfl) rfl rfl ?_
  refine ew_aload_n (t := 21) dJ2_clear_20 rfl rfl rfl ?_
  refine ew_ic0 (t := 22) dJ2_clear_21 rfl ?_
  refine ew_dupx1 (t := 23) dJ2_clear_22 rfl rfl rfl ?_
  refine ew_put (t := 26) (j := 2) (fs' := [.int (mo + 1), .ref 0, .int 0]) (h' := (hov h [(c, OB 12 [.int (mo + 1), .ref 0, .int 0])])) fcJ2 hv_hit (Nat.le_of_ble_eq_true rfl) rfl q112 rfl rfl (Nat.le_of_ble_eq_true rfl) rfl dJ2_clear_23 hov_set_hit rfl ?_
  refine ew_istore_n (t := 27) (L' := [some (.ref c), some (.ref 0), some (.int 0), some (.int 0)]) dJ2_clear_26 rfl (Nat.le_of_ble_eq_true rfl) rfl rfl ?_
  refine ew_iload_n (t := 28) dJ2_clear_27 rfl rfl rfl ?_
  refine ew_iload_n (t := 29) dJ2_clear_28 rfl rfl rfl ?_
  refine ew_icmp_ge (t := 42) (t2 := 32) dJ2_clear_29 rfl rfl (fun c_29 => ?_) (fun c_29 => ?_)
  · exact ew_vret rfl dJ2_clear_42 (Nat.le_refl _) (Nat.le_refl _) ⟨rfl, rfl, rfl⟩
  · exact absurd c_29 (by decide)
set_option maxHeartbeats 600000 in
theorem lx_clear {l : Launch} {G : GW} {h : AH} {n : Nat} {c e np : Nat} {mo : Int32} {f : Nat → Option Nat} (hnp : np ≤ 10) (hec : ¬ e = c) (xc : h c = some (OB 12 [.int mo, .ref e, .int (nI np)])) (xe : h e = some (RA 10 f)) : ∀ (f1 k : Nat), k + f1 = np → EW l G yJ2_clear cJ2_clear 4 none 0 0 0 (Qv (hov h [(c, OB 12 [.int (mo + 1), .ref e, .int 0]), (e, RA 10 (clN f np))]) n) 0 0 (hov h [(c, OB 12 [.int (mo + 1), .ref e, .int 0]), (e, RA 10 (clN f k))]) n 27 [some (.ref c), some (.ref e), some (.int (nI np)), some (.int (nI k))] [] := by
  intro f1
  induction f1 with
  | zero =>
    intro k hk
    refine ew_iload_n (t := 28) dJ2_clear_27 rfl rfl rfl ?_
    refine ew_iload_n (t := 29) dJ2_clear_28 rfl rfl rfl ?_
    refine ew_icmp_ge (t := 42) (t2 := 32) dJ2_clear_29 rfl rfl (fun c_29 => ?_) (fun c_29 => ?_)
    · exact ew_vret rfl dJ2_clear_42 (Nat.le_refl _) (Nat.le_refl _) ⟨rfl, by rw [show k = np by omega], rfl⟩
    · exact absurd (show nI np ≤ nI k by rw [show k = np by omega]; exact Int32.le_refl _) c_29
  | succ f1 ih =>
    intro k hk
    refine ew_iload_n (t := 28) dJ2_clear_27 rfl rfl rfl ?_
    refine ew_iload_n (t := 29) dJ2_clear_28 rfl rfl rfl ?_
    refine ew_icmp_ge (t := 42) (t2 := 32) dJ2_clear_29 rfl rfl (fun c_29 => ?_) (fun c_29 => ?_)
    · exact absurd c_29 (nI_ge (by omega) (by omega))
    · refine ew_aload_n (t := 33) dJ2_clear_32 rfl rfl rfl ?_
      refine ew_iload_n (t := 34) dJ2_clear_33 rfl rfl rfl ?_
      refine ew_null (t := 35) dJ2_clear_34 rfl ?_
      refine ew_aastN5 (t := 36) (j := k) (h' := (hov h [(c, OB 12 [.int (mo + 1), .ref e, .int 0]), (e, RA 10 (va_up (clN f k) k none))])) ((hv_miss (by omega)).trans hv_hit) (vp_in_nI (by omega) (by omega)) (nI_clamp (by omega)) dJ2_clear_35 (hov_set_miss (by omega) hov_set_hit) rfl ?_
      refine ew_iinc (t := 39) (x := (nI k)) (v := ((nI k) + 1)) (L' := [some (.ref c), some (.ref e), some (.int (nI np)), some (.int ((nI k) + 1))]) dJ2_clear_36 rfl rfl (Nat.le_of_ble_eq_true rfl) rfl rfl ?_
      refine ew_goto (t := 27) dJ2_clear_39 rfl ?_
      rw [nI_1]
      exact ih (k + 1) (by omega)
theorem hov_ad {h : AH} {a c : Nat} {x y : AC} (hac : ¬ a = c) (e : h a = some y) : hov h [(c, x)] = hov h [(c, x), (a, y)] := by
  funext k
  by_cases h1 : k = c
  · rw [h1, hv_hit, hv_hit]
  · rw [hv_miss h1, hv_miss h1]
    by_cases h2 : k = a
    · rw [h2, hv_hit]; exact e
    · rw [hv_miss h2]
set_option maxHeartbeats 600000 in
theorem al_clear1 {l : Launch} {G : GW} {h : AH} {n : Nat} {c e np : Nat} {mo : Int32} {f : Nat → Option Nat} (hnp : np ≤ 10) (hec : ¬ e = c) (xc : h c = some (OB 12 [.int mo, .ref e, .int (nI np)])) (xe : h e = some (RA 10 f)) : AM l G yJ2_clear cJ2_clear 4 none 0 0 0 [.ref c] h n (Qv (hov h [(c, OB 12 [.int (mo + 1), .ref e, .int 0]), (e, RA 10 (clN f np))]) n) := by
  refine AM.of (L := [some (.ref c), none, none, none]) (by decide) (Nat.le_of_ble_eq_true rfl) rfl ?_
  refine ew_aload_n (t := 1) dJ2_clear_0 rfl rfl rfl ?_
  refine ew_dup (t := 2) dJ2_clear_1 rfl rfl ?_
  refine ew_getM (t := 5) xc q114 dJ2_clear_2 rfl ?_
  refine ew_ic1 (t := 6) dJ2_clear_5 rfl ?_
  refine ew_iadd (t := 7) dJ2_clear_6 rfl ?_
  refine ew_putM (t := 10) (h' := (hov h [(c, OB 12 [.int (mo + 1), .ref e, .int (nI np)])])) xc q114 dJ2_clear_7 hov_up0 rfl ?_
  refine ew_aload_n (t := 11) dJ2_clear_10 rfl rfl rfl ?_
  refine ew_get (t := 14) (j := 1) (v := .ref e) fcJ2 hv_hit (Nat.le_of_ble_eq_true rfl) q111 rfl dJ2_clear_11 rfl ?_
  refine ew_astore_n (t := 15) (L' := [some (.ref c), some (.ref e), none, none]) dJ2_clear_14 rfl (Nat.le_of_ble_eq_true rfl) rfl rfl ?_
  refine ew_aload_n (t := 16) dJ2_clear_15 rfl rfl rfl ?_
  refine ew_get (t := 19) (j := 2) (v := .int (nI np)) fcJ2 hv_hit (Nat.le_of_ble_eq_true rfl) q112 rfl dJ2_clear_16 rfl ?_
  refine ew_istore_n (t := 20) (L' := [some (.ref c), some (.ref e), some (.int (nI np)), none]) dJ2_clear_19 rfl (Nat.le_of_ble_eq_true rfl) rfl rfl ?_
  refine ew_aload_n (t := 21) dJ2_clear_20 rfl rfl rfl ?_
  refine ew_ic0 (t := 22) dJ2_clear_21 rfl ?_
  refine ew_dupx1 (t := 23) dJ2_clear_22 rfl rfl rfl ?_
  refine ew_put (t := 26) (j := 2) (fs' := [.int (mo + 1), .ref e, .int 0]) (h' := (hov h [(c, OB 12 [.int (mo + 1), .ref e, .int 0])])) fcJ2 hv_hit (Nat.le_of_ble_eq_true rfl) rfl q112 rfl rfl (Nat.le_of_ble_eq_true rfl) rfl dJ2_clear_23 hov_set_hit rfl ?_
  refine ew_istore_n (t := 27) (L' := [some (.ref c), some (.ref e), some (.int (nI np)), some (.int 0)]) dJ2_clear_26 rfl (Nat.le_of_ble_eq_true rfl) rfl rfl ?_
  refine EW.heap (h' := (hov h [(c, OB 12 [.int (mo + 1), .ref e, .int 0]), (e, RA 10 (clN f 0))])) (hov_ad (hec) xe) ?_
  exact lx_clear hnp hec xc xe np 0 (by omega)
