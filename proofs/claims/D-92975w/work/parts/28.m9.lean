/-! the reference: weight, finds, may -/
set_option maxRecDepth 100000
set_option maxHeartbeats 4000000 in
theorem lp_weight {l : Launch} {G : GW} {n : Nat} {h : AH} {s : Nat → Int32} {al : Int64} {F34 F35 F36 : Nat → Int32} {a H : Nat} (cf : CFM h F34 F35 F36 a H) {RR : Int64} : ∀ (ws : List WY) (v : Nat) (R : MR) (c : Int64), RR = c + wsum ws → EnM F34 F35 F36 (s 22) (s 23) (s 24) a H ws v R → v ≤ H → okM (begM H v) R → EW l G yX4_weight cX4_weight 3 (some .long) 4 0 0 (fun r h' n' => n' = n ∧ r = some (.long RR) ∧ ∃ lv R', h' = hovM h s al lv R') 0 0 (hovM h s al (nI v) R) n 10 [some (.ref 33), some (.long c), none] [] := by
  intro ws
  induction ws with
  | nil =>
    intro v R c hRR hE hv hok
    refine ew_aload_n (t := 11) dX4_weight_10 rfl rfl rfl ?_
    refine ew_goesOn (t := 14) cf hE hv hok (lw_V q1219 q1221 qs35 q60 q1222) dX4_weight_11 (Nat.le_of_ble_eq_true rfl) (Nat.le_refl _) (Nat.le_refl _) (Nat.le_of_ble_eq_true rfl) rfl (fun _ lv R' => ?_) (fun w ws' e => by cases e)
    refine ew_if_eq (t := 28) (t2 := 17) dX4_weight_14 rfl rfl (fun _ => ?_) (fun q => absurd rfl q)
    refine ew_lload_n (t := 29) dX4_weight_28 rfl rfl rfl ?_
    exact ew_lret rfl dX4_weight_29 (Nat.le_refl _) (Nat.le_refl _) ⟨rfl, by rw [hRR]; simp [wsum], lv, R', rfl⟩
  | cons w ws ih =>
    intro v R c hRR hE hv hok
    refine ew_aload_n (t := 11) dX4_weight_10 rfl rfl rfl ?_
    refine ew_goesOn (t := 14) cf hE hv hok (lw_V q1219 q1221 qs35 q60 q1222) dX4_weight_11 (Nat.le_of_ble_eq_true rfl) (Nat.le_refl _) (Nat.le_refl _) (Nat.le_of_ble_eq_true rfl) rfl (fun e => by cases e) (fun w1 ws1 e R' hl hE2 => ?_)
    cases e
    refine ew_if_eq (t := 28) (t2 := 17) dX4_weight_14 rfl rfl (fun q => absurd q (by decide)) (fun _ => ?_)
    refine ew_lload_n (t := 18) dX4_weight_17 rfl rfl rfl ?_
    refine ew_aload_n (t := 19) dX4_weight_18 rfl rfl rfl ?_
    refine ew_heavy (t := 22) cf hl (lw_V q1244 q1246 qs38 q60 q1247) dX4_weight_19 (Nat.le_of_ble_eq_true rfl) (Nat.le_refl _) (Nat.le_refl _) (Nat.le_of_ble_eq_true rfl) rfl ?_
    refine ew_i2l (t := 23) dX4_weight_22 rfl ?_
    refine ew_ladd (t := 24) dX4_weight_23 rfl ?_
    refine ew_lstore_n (t := 25) (L' := [some (.ref 33), some (.long (c + (heavyI w.2.2.1 (nI w.2.2.2.1) (nI w.2.2.2.2)).toInt64)), none]) dX4_weight_24 rfl (Nat.le_of_ble_eq_true rfl) rfl rfl ?_
    refine ew_goto (t := 10) dX4_weight_25 rfl ?_
    exact ih H R' _ (by rw [hRR]; show c + ((heavyI w.2.2.1 (nI w.2.2.2.1) (nI w.2.2.2.2)).toInt64 + wsum ws) = _; rw [Int64.add_assoc]) hE2 (Nat.le_refl _) (lfM_ok hl)
set_option maxHeartbeats 4000000 in
theorem am_weight {l : Launch} {G : GW} {h : AH} {n : Nat} {s : Nat → Int32} {al : Int64} {F34 F35 F36 : Nat → Int32} {a H : Nat} {R : MR} (m33 : h 33 = some (MO s al)) (cf : CFM h F34 F35 F36 a H) (mR : rowsM h R) (hS1 : ∃ b, b < 100 ∧ F34 1 = nI b) {ws : List WY} (hE : EnM F34 F35 F36 0 0 0 a H ws 0 (begR (F34 1) R)) : AM l G yX4_weight cX4_weight 3 (some .long) 4 0 0 [.ref 33] h n (fun r h' n' => n' = n ∧ r = some (.long (wsum ws)) ∧ ∃ lv R', h' = hovM h (upd (upd (upd s 22 0) 23 0) 24 0) al lv R') := by
  refine AM.of (L := [some (.ref 33), none, none]) (by decide) (Nat.le_of_ble_eq_true rfl) rfl ?_
  refine ew_aload_n (t := 1) dX4_weight_0 rfl rfl rfl ?_
  refine ew_asTold (t := 4) m33 (lw_V q1211 q1213 qs33 q60 q1214) dX4_weight_1 (Nat.le_of_ble_eq_true rfl) (Nat.le_refl _) (Nat.le_refl _) (Nat.le_of_ble_eq_true rfl) rfl ?_
  refine ew_aload_n (t := 5) dX4_weight_4 rfl rfl rfl ?_
  refine ew_begins (t := 8) (s := (upd (upd (upd s 22 0) 23 0) 24 0)) rfl cf.1 (mR_33 mR) (lw_V q1215 q1217 qs34 q60 q1218) dX4_weight_5 (Nat.le_of_ble_eq_true rfl) (Nat.le_refl _) (Nat.le_refl _) (Nat.le_of_ble_eq_true rfl) rfl ?_
  refine EW.heap (h' := hovM h (upd (upd (upd s 22 0) 23 0) 24 0) al (nI 0) (begR (F34 1) R)) (hov_shadow _ _ _ _) ?_
  refine ew_lc0 (t := 9) dX4_weight_8 rfl ?_
  refine ew_lstore_n (t := 10) (L' := [some (.ref 33), some (.long 0), none]) dX4_weight_9 rfl (Nat.le_of_ble_eq_true rfl) rfl rfl ?_
  exact lp_weight cf ws 0 _ 0 (by simp) hE (by omega) (beg_ok cf.2.2.2.2.2.2.1 hS1)
def mbits (hr : Nat) (row : Int32) : List WY → Int32 → Int32
  | [], c => c
  | w :: ws, c => mbits hr row ws (c ||| (if ¬ nI (w.1 hr) / 10 = row then 0 else (1 : Int32) <<< ((nI (w.1 hr) - nI (w.1 hr) / 10 * 10) &&& 31)))
set_option maxHeartbeats 4000000 in
theorem lp_may {l : Launch} {G : GW} {n : Nat} {h : AH} {s : Nat → Int32} {al : Int64} {F34 F35 F36 : Nat → Int32} {a H : Nat} (cf : CFM h F34 F35 F36 a H) {RR : Int32} {hr : Nat} {row : Int32} (hhr : hr ≤ H) : ∀ (ws : List WY) (v : Nat) (R : MR) (c : Int32), RR = mbits hr row ws c → EnM F34 F35 F36 (s 22) (s 23) (s 24) a H ws v R → v ≤ H → okM (begM H v) R → EW l G yX4_may cX4_may 4 (some .int) 4 0 0 (fun r h' n' => n' = n ∧ r = some (.int RR) ∧ ∃ lv R', h' = hovM h s al lv R') 0 0 (hovM h s al (nI v) R) n 40 [some (.ref 33), some (.int (nI hr)), some (.int row), some (.int c)] [] := by
  intro ws
  induction ws with
  | nil =>
    intro v R c hRR hE hv hok
    refine ew_aload_n (t := 41) dX4_may_40 rfl rfl rfl ?_
    refine ew_goesOn (t := 44) cf hE hv hok (lw_V q1219 q1221 qs35 q60 q1222) dX4_may_41 (Nat.le_of_ble_eq_true rfl) (Nat.le_refl _) (Nat.le_refl _) (Nat.le_of_ble_eq_true rfl) rfl (fun _ lv R' => ?_) (fun w ws' e => by cases e)
    refine ew_if_eq (t := 81) (t2 := 47) dX4_may_44 rfl rfl (fun _ => ?_) (fun q => absurd rfl q)
    refine ew_iload_n (t := 82) dX4_may_81 rfl rfl rfl ?_
    exact ew_iret rfl dX4_may_82 (Nat.le_refl _) (Nat.le_refl _) ⟨rfl, by rw [hRR]; rfl, lv, R', rfl⟩
  | cons w ws ih =>
    intro v R c hRR hE hv hok
    refine ew_aload_n (t := 41) dX4_may_40 rfl rfl rfl ?_
    refine ew_goesOn (t := 44) cf hE hv hok (lw_V q1219 q1221 qs35 q60 q1222) dX4_may_41 (Nat.le_of_ble_eq_true rfl) (Nat.le_refl _) (Nat.le_refl _) (Nat.le_of_ble_eq_true rfl) rfl (fun e => by cases e) (fun w1 ws1 e R' hl hE2 => ?_)
    cases e
    refine ew_if_eq (t := 81) (t2 := 47) dX4_may_44 rfl rfl (fun q => absurd q (by decide)) (fun _ => ?_)
    have hH6 := cf.2.2.2.2.2.2.2
    refine ew_iload_n (t := 48) dX4_may_47 rfl rfl rfl ?_
    refine ew_aload_n (t := 49) dX4_may_48 rfl rfl rfl ?_
    refine ew_get (t := 52) (j := 14) (v := .ref 45) fcX4 rfl (Nat.le_of_ble_eq_true rfl) q1035 rfl dX4_may_49 rfl ?_
    refine ew_iload_n (t := 53) dX4_may_52 rfl rfl rfl ?_
    refine ew_iald (t := 54) (j := hr) (N := 7) rfl (vp_in_nI (by omega) (by omega)) (nI_clamp (by omega)) dX4_may_53 rfl ?_
    rw [(hl.1 hr (by omega)).1]
    refine ew_bipush (t := 56) (v := 10) dX4_may_54 (by decide) rfl ?_
    refine ew_idiv (t := 57) dX4_may_56 (by decide) rfl ?_
    refine ew_iload_n (t := 58) dX4_may_57 rfl rfl rfl ?_
    have J76 : ∀ (j76_0 : Int32), j76_0 = ((if ¬ ((nI (w.1 hr)) / 10) = row then 0 else ((1 : Int32) <<< (((nI (w.1 hr)) - (nI (w.1 hr)) / 10 * 10) &&& 31))) : Int32) → EW l G yX4_may cX4_may 4 (some .int) 4 0 0 (fun r h' n' => n' = n ∧ r = some (.int RR) ∧ ∃ lv R', h' = hovM h s al lv R') 0 0 (hov h [(33, OB 4 (MOf (upd s 21 (nI H)) al)), (44, IA 7 (R' 44)), (45, IA 7 (R' 45)), (46, IA 7 (R' 46)), (47, IA 7 (R' 47)), (48, IA 7 (R' 48)), (49, IA 7 (R' 49)), (50, IA 7 (R' 50)), (51, IA 7 (R' 51))]) n 76 [some (.ref 33), some (.int (nI hr)), some (.int row), some (.int c)] [.int j76_0, .int c] := by
      intro j76_0 hj76_0
      refine ew_ior (t := 77) dX4_may_76 rfl ?_
      refine ew_istore_n (t := 78) (L' := [some (.ref 33), some (.int (nI hr)), some (.int row), some (.int (c ||| j76_0))]) dX4_may_77 rfl (Nat.le_of_ble_eq_true rfl) rfl rfl ?_
      refine ew_goto (t := 40) dX4_may_78 rfl ?_
      exact ih H R' _ (by rw [hRR]; show mbits hr row ws (c ||| _) = _; rw [hj76_0]) hE2 (Nat.le_refl _) (lfM_ok hl)
    refine ew_icmp_ne (t := 75) (t2 := 61) dX4_may_58 rfl rfl (fun c_58 => ?_) (fun c_58 => ?_)
    · refine ew_ic0 (t := 76) dX4_may_75 rfl ?_
      exact J76 0 (by simp only [if_pos c_58])
    · refine ew_ic1 (t := 62) dX4_may_61 rfl ?_
      refine ew_aload_n (t := 63) dX4_may_62 rfl rfl rfl ?_
      refine ew_get (t := 66) (j := 14) (v := .ref 45) fcX4 rfl (Nat.le_of_ble_eq_true rfl) q1035 rfl dX4_may_63 rfl ?_
      refine ew_iload_n (t := 67) dX4_may_66 rfl rfl rfl ?_
      refine ew_iald (t := 68) (j := hr) (N := 7) rfl (vp_in_nI (by omega) (by omega)) (nI_clamp (by omega)) dX4_may_67 rfl ?_
      rw [(hl.1 hr (by omega)).1]
      refine ew_bipush (t := 70) (v := 10) dX4_may_68 (by decide) rfl ?_
      refine ew_irem (t := 71) dX4_may_70 (by decide) rfl ?_
      refine ew_ishl (t := 72) dX4_may_71 rfl ?_
      refine ew_goto (t := 76) dX4_may_72 rfl ?_
      exact J76 ((1 : Int32) <<< (((nI (w.1 hr)) - (nI (w.1 hr)) / 10 * 10) &&& 31)) (by simp only [if_neg (not_not_intro c_58)])
theorem hh_of {hh : Int32} {H : Nat} (hH : H < 7) (h : inL hh.toInt64 0 (nI H).toInt64 = true) : ∃ hr : Nat, hr ≤ H ∧ hh = nI hr := by
  rw [show (0 : Int64) = (0 : Int32).toInt64 from rfl, inL_I, inI_iff] at h
  obtain ⟨j, h1, h2⟩ := nI_of2 (M := nI H) (n := H) (nI_toInt (by omega)) (Int32.not_lt.mpr h.1) h.2
  exact ⟨j, h1, h2⟩
set_option maxHeartbeats 4000000 in
theorem am_may {l : Launch} {G : GW} {h : AH} {n : Nat} {s : Nat → Int32} {al : Int64} {F34 F35 F36 : Nat → Int32} {a H : Nat} {R : MR} (m33 : h 33 = some (MO s al)) (cf : CFM h F34 F35 F36 a H) (mR : rowsM h R) (hS1 : ∃ b, b < 100 ∧ F34 1 = nI b) {ws : List WY} (hE : EnM F34 F35 F36 0 0 0 a H ws 0 (begR (F34 1) R)) (hh row : Int32) : AM l G yX4_may cX4_may 4 (some .int) 4 0 0 [.ref 33, .int hh, .int row] h n (fun r h' n' => ((inL hh.toInt64 0 (nI H).toInt64 = false ∨ inL row.toInt64 0 9 = false) ∧ r = some (.int (-1)) ∧ h' = h ∧ n' = n) ∨ ∃ hr, hr ≤ H ∧ hh = nI hr ∧ inL row.toInt64 0 9 = true ∧ n' = n ∧ r = some (.int (mbits hr row ws 0)) ∧ ∃ lv R', h' = hovM h (upd (upd (upd s 22 0) 23 0) 24 0) al lv R') := by
  refine AM.of (L := [some (.ref 33), some (.int hh), some (.int row), none]) (by decide) (Nat.le_of_ble_eq_true rfl) rfl ?_
  refine ew_iload_n (t := 1) dX4_may_0 rfl rfl rfl ?_
  refine ew_i2l (t := 2) dX4_may_1 rfl ?_
  refine ew_lc0 (t := 3) dX4_may_2 rfl ?_
  refine ew_aload_n (t := 4) dX4_may_3 rfl rfl rfl ?_
  refine ew_get (t := 7) (j := 0) (v := .ref 34) fcX4 m33 (Nat.le_of_ble_eq_true rfl) q1021 rfl dX4_may_4 rfl ?_
  refine ew_ic2 (t := 8) dX4_may_7 rfl ?_
  refine ew_iald (t := 9) (j := 2) (N := 8) cf.1 (vpI (by decide)) (by decide) dX4_may_8 rfl ?_
  rw [cf.2.2.2.2.2.1]
  refine ew_i2l (t := 10) dX4_may_9 rfl ?_
  refine ew_callS (t := 13) (As := [_, _, _]) (am_in _ _ _) (lw_S q1153 q1154 q60 q1155) naX4_in dX4_may_10 rfl (Nat.le_of_ble_eq_true rfl) (Nat.le_of_ble_eq_true rfl) (Nat.le_refl _) (Nat.le_refl _) (Nat.le_of_ble_eq_true rfl) rfl (qi ?_)
  refine ew_if_eq (t := 28) (t2 := 16) dX4_may_13 rfl rfl (fun c_13 => ?_) (fun c_13 => ?_)
  · refine ew_icm1 (t := 29) dX4_may_28 rfl ?_
    exact ew_iret rfl dX4_may_29 (Nat.le_refl _) (Nat.le_refl _) (Or.inl ⟨Or.inl (b2i_0.mp (by simpa using c_13)), rfl, rfl, rfl⟩)
  · refine ew_iload_n (t := 17) dX4_may_16 rfl rfl rfl ?_
    refine ew_i2l (t := 18) dX4_may_17 rfl ?_
    refine ew_lc0 (t := 19) dX4_may_18 rfl ?_
    refine ew_ldc2 (t := 22) (v := 9) dX4_may_19 q1206 rfl ?_
    refine ew_callS (t := 25) (As := [_, _, _]) (am_in _ _ _) (lw_S q1153 q1154 q60 q1155) naX4_in dX4_may_22 rfl (Nat.le_of_ble_eq_true rfl) (Nat.le_of_ble_eq_true rfl) (Nat.le_refl _) (Nat.le_refl _) (Nat.le_of_ble_eq_true rfl) rfl (qi ?_)
    refine ew_if_ne (t := 30) (t2 := 28) dX4_may_25 rfl rfl (fun c_25 => ?_) (fun c_25 => ?_)
    · obtain ⟨hr, hhr, rfl⟩ := hh_of (H := H) (by have := cf.2.2.2.2.2.2.2; omega) (b2i_1.mp (by simpa using c_13))
      refine ew_aload_n (t := 31) dX4_may_30 rfl rfl rfl ?_
      refine ew_asTold (t := 34) m33 (lw_V q1211 q1213 qs33 q60 q1214) dX4_may_31 (Nat.le_of_ble_eq_true rfl) (Nat.le_refl _) (Nat.le_refl _) (Nat.le_of_ble_eq_true rfl) rfl ?_
      refine ew_aload_n (t := 35) dX4_may_34 rfl rfl rfl ?_
      refine ew_begins (t := 38) (s := (upd (upd (upd s 22 0) 23 0) 24 0)) rfl cf.1 (mR_33 mR) (lw_V q1215 q1217 qs34 q60 q1218) dX4_may_35 (Nat.le_of_ble_eq_true rfl) (Nat.le_refl _) (Nat.le_refl _) (Nat.le_of_ble_eq_true rfl) rfl ?_
      refine EW.heap (h' := hovM h (upd (upd (upd s 22 0) 23 0) 24 0) al (nI 0) (begR (F34 1) R)) (hov_shadow _ _ _ _) ?_
      refine ew_ic0 (t := 39) dX4_may_38 rfl ?_
      refine ew_istore_n (t := 40) (L' := [some (.ref 33), some (.int (nI hr)), some (.int row), some (.int 0)]) dX4_may_39 rfl (Nat.le_of_ble_eq_true rfl) rfl rfl ?_
      refine EW.post (fun r h' n' q => Or.inr ⟨hr, hhr, rfl, b2i_1.mp (by simpa using c_25), q.1, q.2.1, q.2.2⟩) (lp_may (RR := mbits hr row ws 0) cf hhr ws 0 _ 0 rfl hE (by omega) (beg_ok cf.2.2.2.2.2.2.1 hS1))
    · refine ew_icm1 (t := 29) dX4_may_28 rfl ?_
      exact ew_iret rfl dX4_may_29 (Nat.le_refl _) (Nat.le_refl _) (Or.inl ⟨Or.inr (b2i_0.mp (by simpa using c_25)), rfl, rfl, rfl⟩)
