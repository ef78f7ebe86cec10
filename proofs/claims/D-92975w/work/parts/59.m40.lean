-- Obj fields dict_keys(['cls', 'fun', 'sname', 'refs', 'extra', 'ups'])
/-! the reference: isKnown, its outer loop -/
set_option maxRecDepth 100000
def knA (I : Nat → Int32) (b H : Nat) : List WY → Int32
  | [] => 0
  | w :: ws => if knF w I b (H + 1) = 0 then knA I b H ws else 1
theorem knF01 {w : WY} {I : Nat → Int32} {b : Nat} : ∀ k, knF w I b k = 0 ∨ knF w I b k = 1
  | 0 => Or.inr rfl
  | k + 1 => or_ite (Or.inl rfl) (or_ite (Or.inl rfl) (Or.inr rfl))
set_option maxHeartbeats 4000000 in
theorem lp_known2 {l : Launch} {G : GW} {h : AH} {n : Nat} {s : Nat → Int32} {al : Int64} {F34 F35 F36 IT : Nat → Int32} {a H b : Nat} {Q : Option Value → AH → Nat → Prop} (cf : CFM h F34 F35 F36 a H) (m61 : h 61 = some (IA 64 IT)) (hb : b + (H + 1) ≤ 64) {V : Int32} (hq : ∀ (lv : Int32) (R' : MR), Q (some (.int V)) (hovM h s al lv R') n) : ∀ (ws : List WY) (v : Nat) (R : MR) (o3 : Option Value), V = knA IT b H ws → EnM F34 F35 F36 (s 22) (s 23) (s 24) a H ws v R → v ≤ H → okM (begM H v) R → EW l G yX4_isKnown cX4_isKnown 4 (some .boolean) 4 0 0 Q 0 0 (hovM h s al (nI v) R) n 16 [some (.ref 33), some (.int (nI b)), some (.int 0), o3] [] := by
  intro ws
  induction ws with
  | nil =>
    intro v R o3 hV hE hv hok
    refine ew_iload_n (t := 17) dX4_isKnown_16 rfl rfl rfl ?_
    refine ew_if_ne (t := 77) (t2 := 20) dX4_isKnown_17 rfl rfl (fun q => absurd rfl q) (fun _ => ?_)
    refine ew_aload_n (t := 21) dX4_isKnown_20 rfl rfl rfl ?_
    refine ew_goesOn (t := 24) cf hE hv hok (lw_V q1219 q1221 qs35 q60 q1222) dX4_isKnown_21 (Nat.le_of_ble_eq_true rfl) (Nat.le_refl _) (Nat.le_refl _) (Nat.le_of_ble_eq_true rfl) rfl (fun _ lv R' => ?_) (fun w ws' e => by cases e)
    refine ew_if_eq (t := 77) (t2 := 27) dX4_isKnown_24 rfl rfl (fun _ => ?_) (fun q => absurd rfl q)
    refine ew_iload_n (t := 78) dX4_isKnown_77 rfl rfl rfl ?_
    exact ew_zret rfl (by decide) dX4_isKnown_78 (Nat.le_refl _) (Nat.le_refl _) (by have := hq lv R'; rw [hV] at this; exact this)
  | cons w ws ih =>
    intro v R o3 hV hE hv hok
    refine ew_iload_n (t := 17) dX4_isKnown_16 rfl rfl rfl ?_
    refine ew_if_ne (t := 77) (t2 := 20) dX4_isKnown_17 rfl rfl (fun q => absurd rfl q) (fun _ => ?_)
    refine ew_aload_n (t := 21) dX4_isKnown_20 rfl rfl rfl ?_
    refine ew_goesOn (t := 24) cf hE hv hok (lw_V q1219 q1221 qs35 q60 q1222) dX4_isKnown_21 (Nat.le_of_ble_eq_true rfl) (Nat.le_refl _) (Nat.le_refl _) (Nat.le_of_ble_eq_true rfl) rfl (fun e => by cases e) (fun w1 ws1 e R' hl hE2 => ?_)
    cases e
    refine ew_if_eq (t := 77) (t2 := 27) dX4_isKnown_24 rfl rfl (fun q => absurd q (by decide)) (fun _ => ?_)
    refine ew_ic1 (t := 28) dX4_isKnown_27 rfl ?_
    refine ew_istore_n (t := 29) (L' := [some (.ref 33), some (.int (nI b)), some (.int 1), o3]) dX4_isKnown_28 rfl (Nat.le_of_ble_eq_true rfl) rfl rfl ?_
    refine ew_ic0 (t := 30) dX4_isKnown_29 rfl ?_
    refine ew_istore_n (t := 31) (L' := [some (.ref 33), some (.int (nI b)), some (.int 1), some (.int 0)]) dX4_isKnown_30 rfl (Nat.le_of_ble_eq_true rfl) rfl rfl ?_
    refine lp_known (h := hovM h s al (nI H) R') (s := upd s 21 (nI H)) (al := al) (F34 := F34) (F45 := R' 45) (IT := IT) (w := w) rfl cf.1 rfl m61 cf.2.2.2.2.2.1 cf.2.2.2.2.2.2.2 (fun j hj => (hl.1 j hj).1) hb ?_ (H + 1) 0 (by omega)
    refine ew_goto (t := 16) dX4_isKnown_74 rfl ?_
    rcases knF01 (w := w) (I := IT) (b := b) (H + 1) with e | e
    · rw [e]
      exact ih H R' _ (by rw [hV, knA, if_pos e]) hE2 (Nat.le_refl _) (lfM_ok hl)
    · have hV1 : V = 1 := by rw [hV, knA, if_neg (by rw [e]; decide)]
      rw [e]
      refine ew_iload_n (t := 17) dX4_isKnown_16 rfl rfl rfl ?_
      refine ew_if_ne (t := 77) (t2 := 20) dX4_isKnown_17 rfl rfl (fun _ => ?_) (fun q => absurd q (by decide))
      refine ew_iload_n (t := 78) dX4_isKnown_77 rfl rfl rfl ?_
      exact ew_zret rfl (by decide) dX4_isKnown_78 (Nat.le_refl _) (Nat.le_refl _) (by have := hq (nI H) R'; rw [hV1] at this; exact this)
set_option maxHeartbeats 4000000 in
theorem am_isKnown {l : Launch} {G : GW} {h : AH} {n : Nat} {s : Nat → Int32} {al : Int64} {F34 F35 F36 IT : Nat → Int32} {a H b : Nat} {R : MR} (m33 : h 33 = some (MO s al)) (cf : CFM h F34 F35 F36 a H) (mR : rowsM h R) (hS1 : ∃ b, b < 100 ∧ F34 1 = nI b) (m61 : h 61 = some (IA 64 IT)) (hb : b + (H + 1) ≤ 64) {ws : List WY} (hE : EnM F34 F35 F36 127 0 0 a H ws 0 (begR (F34 1) R)) : AM l G yX4_isKnown cX4_isKnown 4 (some .boolean) 4 0 0 [.ref 33, .int (nI b)] h n (fun r h' n' => n' = n ∧ r = some (.int (knA IT b H ws)) ∧ ∃ lv R', h' = hovM h (upd (upd (upd (upd s 22 0) 23 0) 24 0) 22 127) al lv R') := by
  refine AM.of (L := [some (.ref 33), some (.int (nI b)), none, none]) (by decide) (Nat.le_of_ble_eq_true rfl) rfl ?_
  refine ew_aload_n (t := 1) dX4_isKnown_0 rfl rfl rfl ?_
  refine ew_asTold (t := 4) m33 (lw_V q1211 q1213 qs33 q60 q1214) dX4_isKnown_1 (Nat.le_of_ble_eq_true rfl) (Nat.le_refl _) (Nat.le_refl _) (Nat.le_of_ble_eq_true rfl) rfl ?_
  refine ew_aload_n (t := 5) dX4_isKnown_4 rfl rfl rfl ?_
  refine ew_bipush (t := 7) (v := 127) dX4_isKnown_5 (by decide) rfl ?_
  refine ew_put (t := 10) (j := 22) (fs' := MOf (upd (upd (upd (upd s 22 0) 23 0) 24 0) 22 127) al) (h' := (hov h [(33, OB 4 (MOf (upd (upd (upd (upd s 22 0) 23 0) 24 0) 22 127) al))])) fcX4 rfl (Nat.le_of_ble_eq_true rfl) rfl q1043 rfl rfl (Nat.le_of_ble_eq_true rfl) rfl dX4_isKnown_7 (hov_up rfl) rfl ?_
  refine ew_aload_n (t := 11) dX4_isKnown_10 rfl rfl rfl ?_
  refine ew_begins (t := 14) (s := (upd (upd (upd (upd s 22 0) 23 0) 24 0) 22 127)) rfl cf.1 (mR_33 mR) (lw_V q1215 q1217 qs34 q60 q1218) dX4_isKnown_11 (Nat.le_of_ble_eq_true rfl) (Nat.le_refl _) (Nat.le_refl _) (Nat.le_of_ble_eq_true rfl) rfl ?_
  refine EW.heap (h' := hovM h (upd (upd (upd (upd s 22 0) 23 0) 24 0) 22 127) al (nI 0) (begR (F34 1) R)) (hov_shadow _ _ _ _) ?_
  refine ew_ic0 (t := 15) dX4_isKnown_14 rfl ?_
  refine ew_istore_n (t := 16) (L' := [some (.ref 33), some (.int (nI b)), some (.int 0), none]) dX4_isKnown_15 rfl (Nat.le_of_ble_eq_true rfl) rfl rfl ?_
  exact lp_known2 (s := (upd (upd (upd (upd s 22 0) 23 0) 24 0) 22 127)) cf m61 hb (fun lv R' => ⟨rfl, rfl, lv, R', rfl⟩) ws 0 _ none rfl hE (by omega) (beg_ok cf.2.2.2.2.2.2.1 hS1)
