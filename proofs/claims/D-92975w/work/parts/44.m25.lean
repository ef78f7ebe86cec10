-- Obj fields dict_keys(['cls', 'fun', 'sname', 'refs', 'extra', 'ups'])
/-! the reference: finds, way -/
set_option maxRecDepth 100000
set_option maxHeartbeats 4000000 in
theorem finds_out {l : Launch} {G : GW} {h : AH} {n : Nat} {ii : Nat} {x : Int32} {Q : Option Value → AH → Nat → Prop} (hq : Q (some (.int 0)) h n) : EW l G yX4_finds cX4_finds 4 (some .boolean) 4 0 0 Q 0 0 h n 15 [some (.ref 33), some (.int (nI ii)), some (.int 0), some (.int x)] [] := by
  refine ew_iload_n (t := 16) dX4_finds_15 rfl rfl rfl ?_
  refine ew_iload_n (t := 17) dX4_finds_16 rfl rfl rfl ?_
  refine ew_icmp_ge (t := 35) (t2 := 20) dX4_finds_17 rfl rfl (fun c_17 => ?_) (fun c_17 => ?_)
  · refine ew_iload_n (t := 36) dX4_finds_35 rfl rfl rfl ?_
    exact ew_zret rfl (by decide) dX4_finds_36 (Nat.le_refl _) (Nat.le_refl _) hq
  · refine ew_iload_n (t := 21) dX4_finds_20 rfl rfl rfl ?_
    refine ew_if_eq (t := 35) (t2 := 24) dX4_finds_21 rfl rfl (fun _ => ?_) (fun q => absurd rfl q)
    refine ew_iload_n (t := 36) dX4_finds_35 rfl rfl rfl ?_
    exact ew_zret rfl (by decide) dX4_finds_36 (Nat.le_refl _) (Nat.le_refl _) hq
set_option maxHeartbeats 4000000 in
theorem lp_finds {l : Launch} {G : GW} {h : AH} {n : Nat} {s : Nat → Int32} {al : Int64} {F34 F35 F36 : Nat → Int32} {a H ii : Nat} {Q : Option Value → AH → Nat → Prop} (cf : CFM h F34 F35 F36 a H) (hii : ii < 2 ^ 31) {o : Option WY} (hq0 : o = none → ∀ (lv : Int32) (R' : MR), Q (some (.int 0)) (hovM h s al lv R') n) (hq1 : ∀ (w : WY) (R' : MR), o = some w → lfM H R' w → Q (some (.int 1)) (hovM h s al (nI H) R') n) : ∀ (ws : List WY) (k : Nat) (R : MR) (w : WY), k ≤ ii → o = (w :: ws)[ii - k]? → lfM H R w → EnM F34 F35 F36 (s 22) (s 23) (s 24) a H ws H R → EW l G yX4_finds cX4_finds 4 (some .boolean) 4 0 0 Q 0 0 (hovM h s al (nI H) R) n 15 [some (.ref 33), some (.int (nI ii)), some (.int 1), some (.int (nI k))] [] := by
  intro ws
  induction ws with
  | nil =>
    intro k R w hk ho hl hE
    refine ew_iload_n (t := 16) dX4_finds_15 rfl rfl rfl ?_
    refine ew_iload_n (t := 17) dX4_finds_16 rfl rfl rfl ?_
    refine ew_icmp_ge (t := 35) (t2 := 20) dX4_finds_17 rfl rfl (fun c_17 => ?_) (fun c_17 => ?_)
    · have e : ii = k := by have := (nI_leI hii (by omega)).mp c_17; omega
      refine ew_iload_n (t := 36) dX4_finds_35 rfl rfl rfl ?_
      exact ew_zret rfl (by decide) dX4_finds_36 (Nat.le_refl _) (Nat.le_refl _) (hq1 w R (by rw [ho, e, Nat.sub_self]; rfl) hl)
    · have e : k < ii := Nat.lt_of_not_le (fun q => c_17 (nI_le q (by omega)))
      refine ew_iload_n (t := 21) dX4_finds_20 rfl rfl rfl ?_
      refine ew_if_eq (t := 35) (t2 := 24) dX4_finds_21 rfl rfl (fun q => absurd q (by decide)) (fun _ => ?_)
      refine ew_aload_n (t := 25) dX4_finds_24 rfl rfl rfl ?_
      refine ew_goesOn (t := 28) cf hE (Nat.le_refl _) (lfM_ok hl) (lw_V q1219 q1221 qs35 q60 q1222) dX4_finds_25 (Nat.le_of_ble_eq_true rfl) (Nat.le_refl _) (Nat.le_refl _) (Nat.le_of_ble_eq_true rfl) rfl (fun _ lv R' => ?_) (fun w ws' e => by cases e)
      refine ew_istore_n (t := 29) (L' := [some (.ref 33), some (.int (nI ii)), some (.int 0), some (.int (nI k))]) dX4_finds_28 rfl (Nat.le_of_ble_eq_true rfl) rfl rfl ?_
      refine ew_iinc (t := 32) (x := (nI k)) (v := ((nI k) + 1)) (L' := [some (.ref 33), some (.int (nI ii)), some (.int 0), some (.int ((nI k) + 1))]) dX4_finds_29 rfl rfl (Nat.le_of_ble_eq_true rfl) rfl rfl ?_
      refine ew_goto (t := 15) dX4_finds_32 rfl ?_
      exact finds_out (hq0 (by rw [ho]; exact List.getElem?_eq_none (by show 0 + 1 ≤ ii - k; omega)) lv R')
  | cons w2 ws ih =>
    intro k R w hk ho hl hE
    refine ew_iload_n (t := 16) dX4_finds_15 rfl rfl rfl ?_
    refine ew_iload_n (t := 17) dX4_finds_16 rfl rfl rfl ?_
    refine ew_icmp_ge (t := 35) (t2 := 20) dX4_finds_17 rfl rfl (fun c_17 => ?_) (fun c_17 => ?_)
    · have e : ii = k := by have := (nI_leI hii (by omega)).mp c_17; omega
      refine ew_iload_n (t := 36) dX4_finds_35 rfl rfl rfl ?_
      exact ew_zret rfl (by decide) dX4_finds_36 (Nat.le_refl _) (Nat.le_refl _) (hq1 w R (by rw [ho, e, Nat.sub_self]; rfl) hl)
    · have e : k < ii := Nat.lt_of_not_le (fun q => c_17 (nI_le q (by omega)))
      refine ew_iload_n (t := 21) dX4_finds_20 rfl rfl rfl ?_
      refine ew_if_eq (t := 35) (t2 := 24) dX4_finds_21 rfl rfl (fun q => absurd q (by decide)) (fun _ => ?_)
      refine ew_aload_n (t := 25) dX4_finds_24 rfl rfl rfl ?_
      refine ew_goesOn (t := 28) cf hE (Nat.le_refl _) (lfM_ok hl) (lw_V q1219 q1221 qs35 q60 q1222) dX4_finds_25 (Nat.le_of_ble_eq_true rfl) (Nat.le_refl _) (Nat.le_refl _) (Nat.le_of_ble_eq_true rfl) rfl (fun e => by cases e) (fun w1 ws1 e2 R' hl2 hE2 => ?_)
      cases e2
      refine ew_istore_n (t := 29) (L' := [some (.ref 33), some (.int (nI ii)), some (.int 1), some (.int (nI k))]) dX4_finds_28 rfl (Nat.le_of_ble_eq_true rfl) rfl rfl ?_
      refine ew_iinc (t := 32) (x := (nI k)) (v := ((nI k) + 1)) (L' := [some (.ref 33), some (.int (nI ii)), some (.int 1), some (.int ((nI k) + 1))]) dX4_finds_29 rfl rfl (Nat.le_of_ble_eq_true rfl) rfl rfl ?_
      refine ew_goto (t := 15) dX4_finds_32 rfl ?_
      rw [nI_1]
      exact ih (k + 1) R' w2 (by omega) (by rw [ho, show ii - k = (ii - (k + 1)) + 1 by omega]; rfl) hl2 hE2
set_option maxHeartbeats 4000000 in
theorem am_finds {l : Launch} {G : GW} {h : AH} {n : Nat} {s : Nat → Int32} {al : Int64} {F34 F35 F36 : Nat → Int32} {a H : Nat} {R : MR} (m33 : h 33 = some (MO s al)) (cf : CFM h F34 F35 F36 a H) (mR : rowsM h R) (hS1 : ∃ b, b < 100 ∧ F34 1 = nI b) {ws : List WY} (hE : EnM F34 F35 F36 0 0 0 a H ws 0 (begR (F34 1) R)) {ii : Nat} (hii : ii < 2 ^ 31) : AM l G yX4_finds cX4_finds 4 (some .boolean) 4 0 0 [.ref 33, .int (nI ii)] h n (fun r h' n' => n' = n ∧ ((ws[ii]? = none ∧ r = some (.int 0) ∧ ∃ lv R', h' = hovM h (upd (upd (upd s 22 0) 23 0) 24 0) al lv R') ∨ ∃ w R', ws[ii]? = some w ∧ r = some (.int 1) ∧ lfM H R' w ∧ h' = hovM h (upd (upd (upd s 22 0) 23 0) 24 0) al (nI H) R')) := by
  refine AM.of (L := [some (.ref 33), some (.int (nI ii)), none, none]) (by decide) (Nat.le_of_ble_eq_true rfl) rfl ?_
  refine ew_aload_n (t := 1) dX4_finds_0 rfl rfl rfl ?_
  refine ew_asTold (t := 4) m33 (lw_V q1211 q1213 qs33 q60 q1214) dX4_finds_1 (Nat.le_of_ble_eq_true rfl) (Nat.le_refl _) (Nat.le_refl _) (Nat.le_of_ble_eq_true rfl) rfl ?_
  refine ew_aload_n (t := 5) dX4_finds_4 rfl rfl rfl ?_
  refine ew_begins (t := 8) (s := (upd (upd (upd s 22 0) 23 0) 24 0)) rfl cf.1 (mR_33 mR) (lw_V q1215 q1217 qs34 q60 q1218) dX4_finds_5 (Nat.le_of_ble_eq_true rfl) (Nat.le_refl _) (Nat.le_refl _) (Nat.le_of_ble_eq_true rfl) rfl ?_
  refine EW.heap (h' := hovM h (upd (upd (upd s 22 0) 23 0) 24 0) al (nI 0) (begR (F34 1) R)) (hov_shadow _ _ _ _) ?_
  refine ew_aload_n (t := 9) dX4_finds_8 rfl rfl rfl ?_
  refine ew_goesOn (t := 12) (s := (upd (upd (upd s 22 0) 23 0) 24 0)) cf hE (by omega) (beg_ok cf.2.2.2.2.2.2.1 hS1) (lw_V q1219 q1221 qs35 q60 q1222) dX4_finds_9 (Nat.le_of_ble_eq_true rfl) (Nat.le_refl _) (Nat.le_refl _) (Nat.le_of_ble_eq_true rfl) rfl (fun e lv R' => ?_) (fun w1 ws1 e R' hl2 hE2 => ?_)
  · refine ew_istore_n (t := 13) (L' := [some (.ref 33), some (.int (nI ii)), some (.int 0), none]) dX4_finds_12 rfl (Nat.le_of_ble_eq_true rfl) rfl rfl ?_
    refine ew_ic0 (t := 14) dX4_finds_13 rfl ?_
    refine ew_istore_n (t := 15) (L' := [some (.ref 33), some (.int (nI ii)), some (.int 0), some (.int 0)]) dX4_finds_14 rfl (Nat.le_of_ble_eq_true rfl) rfl rfl ?_
    exact finds_out ⟨rfl, Or.inl ⟨by rw [e]; rfl, rfl, lv, R', rfl⟩⟩
  · refine ew_istore_n (t := 13) (L' := [some (.ref 33), some (.int (nI ii)), some (.int 1), none]) dX4_finds_12 rfl (Nat.le_of_ble_eq_true rfl) rfl rfl ?_
    refine ew_ic0 (t := 14) dX4_finds_13 rfl ?_
    refine ew_istore_n (t := 15) (L' := [some (.ref 33), some (.int (nI ii)), some (.int 1), some (.int 0)]) dX4_finds_14 rfl (Nat.le_of_ble_eq_true rfl) rfl rfl ?_
    exact lp_finds (o := ws[ii]?) cf hii (fun e lv R' => ⟨rfl, Or.inl ⟨e, rfl, lv, R', rfl⟩⟩) (fun w R' e hl => ⟨rfl, Or.inr ⟨w, R', e, rfl, hl, rfl⟩⟩) ws1 0 R' w1 (by omega) (by rw [e]; rfl) hl2 hE2
