/-! the reference: ends, the loop over the ways -/
set_option maxRecDepth 100000
set_option maxHeartbeats 4000000 in
theorem lp_ends3 {l : Launch} {G : GW} {h : AH} {n : Nat} {s : Nat → Int32} {al : Int64} {F34 F35 F36 : Nat → Int32} {a H g : Nat} {Q : Option Value → AH → Nat → Prop} (cf : CFM h F34 F35 F36 a H) (hg : F34 6 = nI g) (hg3 : g ≤ 3) {Z : Nat → Int64} (kk : ∀ (lv : Int32) (R' : MR) (o1 o2 o3 o4 : Option Value), EW l G yX4_ends cX4_ends 5 none 4 0 0 Q 0 0 (hovM (hov h [(55, JA 100 Z)]) s al lv R') n 123 [some (.ref 33), o1, o2, o3, o4] []) : ∀ (ws : List WY) (v : Nat) (R : MR) (f : Nat → Int64) (o1 o2 o3 o4 : Option Value), Z = waysS H g ws f → EnM F34 F35 F36 (s 22) (s 23) (s 24) a H ws v R → v ≤ H → okM (begM H v) R → EW l G yX4_ends cX4_ends 5 none 4 0 0 Q 0 0 (hovM (hov h [(55, JA 100 f)]) s al (nI v) R) n 25 [some (.ref 33), o1, o2, o3, o4] [] := by
  intro ws
  induction ws with
  | nil =>
    intro v R f o1 o2 o3 o4 hZ hE hv hok
    refine ew_aload_n (t := 26) dX4_ends_25 rfl rfl rfl ?_
    refine ew_goesOn (t := 29) (cfm_55 cf) hE hv hok (lw_V q1219 q1221 qs35 q60 q1222) dX4_ends_26 (Nat.le_of_ble_eq_true rfl) (Nat.le_refl _) (Nat.le_refl _) (Nat.le_of_ble_eq_true rfl) rfl (fun _ lv R' => ?_) (fun w ws' e => by cases e)
    refine ew_if_eq (t := 123) (t2 := 32) dX4_ends_29 rfl rfl (fun _ => ?_) (fun q => absurd rfl q)
    rw [show f = Z from hZ.symm]
    exact kk lv R' o1 o2 o3 o4
  | cons w ws ih =>
    intro v R f o1 o2 o3 o4 hZ hE hv hok
    refine ew_aload_n (t := 26) dX4_ends_25 rfl rfl rfl ?_
    refine ew_goesOn (t := 29) (cfm_55 cf) hE hv hok (lw_V q1219 q1221 qs35 q60 q1222) dX4_ends_26 (Nat.le_of_ble_eq_true rfl) (Nat.le_refl _) (Nat.le_refl _) (Nat.le_of_ble_eq_true rfl) rfl (fun e => by cases e) (fun w1 ws1 e R' hl hE2 => ?_)
    cases e
    refine ew_if_eq (t := 123) (t2 := 32) dX4_ends_29 rfl rfl (fun q => absurd q (by decide)) (fun _ => ?_)
    have hH6 := cf.2.2.2.2.2.2.2
    have hcell := hl.1 H (Nat.le_refl H)
    refine ew_aload_n (t := 33) dX4_ends_32 rfl rfl rfl ?_
    refine ew_get (t := 36) (j := 0) (v := .ref 34) fcX4 rfl (Nat.le_of_ble_eq_true rfl) q1021 rfl dX4_ends_33 rfl ?_
    refine ew_ic2 (t := 37) dX4_ends_36 rfl ?_
    refine ew_iald (t := 38) (j := 2) (N := 8) cf.1 (vpI (by decide)) (by decide) dX4_ends_37 rfl ?_
    rw [cf.2.2.2.2.2.1]
    refine ew_istore_n (t := 39) (L' := [some (.ref 33), some (.int (nI H)), o2, o3, o4]) dX4_ends_38 rfl (Nat.le_of_ble_eq_true rfl) rfl rfl ?_
    refine ew_aload_n (t := 40) dX4_ends_39 rfl rfl rfl ?_
    refine ew_heavy (t := 43) (cfm_55 cf) hl (lw_V q1244 q1246 qs38 q60 q1247) dX4_ends_40 (Nat.le_of_ble_eq_true rfl) (Nat.le_refl _) (Nat.le_refl _) (Nat.le_of_ble_eq_true rfl) rfl ?_
    refine ew_istore_n (t := 44) (L' := [some (.ref 33), some (.int (nI H)), some (.int (ownW w)), o3, o4]) dX4_ends_43 rfl (Nat.le_of_ble_eq_true rfl) rfl rfl ?_
    refine ew_aload_n (t := 45) dX4_ends_44 rfl rfl rfl ?_
    refine ew_get (t := 48) (j := 30) (v := .ref 55) fcX4 rfl (Nat.le_of_ble_eq_true rfl) q1051 rfl dX4_ends_45 rfl ?_
    refine ew_aload_n (t := 49) dX4_ends_48 rfl rfl rfl ?_
    refine ew_get (t := 52) (j := 14) (v := .ref 45) fcX4 rfl (Nat.le_of_ble_eq_true rfl) q1035 rfl dX4_ends_49 rfl ?_
    refine ew_iload_n (t := 53) dX4_ends_52 rfl rfl rfl ?_
    refine ew_iald (t := 54) (j := H) (N := 7) rfl (vp_in_nI (by omega) (by omega)) (nI_clamp (by omega)) dX4_ends_53 rfl ?_
    rw [hcell.1]
    refine ew_dup2 (t := 55) dX4_ends_54 rfl rfl rfl ?_
    refine ew_lald (t := 56) (j := (w.1 H)) (N := 100) rfl (vp_in_nI hcell.2 (by omega)) (nI_clamp (by omega)) dX4_ends_55 rfl ?_
    refine ew_ldc2 (t := 59) (v := 2) dX4_ends_56 q1175 rfl ?_
    refine ew_iload_n (t := 60) dX4_ends_59 rfl rfl rfl ?_
    refine ew_i2l (t := 61) dX4_ends_60 rfl ?_
    refine ew_lmul (t := 62) dX4_ends_61 rfl ?_
    refine ew_ladd (t := 63) dX4_ends_62 rfl ?_
    refine ew_last (t := 64) (j := (w.1 H)) (N := 100) (h' := (hovM (hov h [(55, JA 100 (vp_updL f (w.1 H) ((f (w.1 H)) + (2 * (ownW w).toInt64))))]) s al (nI H) R')) rfl (vp_in_nI hcell.2 (by omega)) (nI_clamp (by omega)) dX4_ends_63 hovM_55 rfl ?_
    refine ew_ic1 (t := 65) dX4_ends_64 rfl ?_
    refine ew_istore_n (t := 66) (L' := [some (.ref 33), some (.int (nI H)), some (.int (ownW w)), some (.int 1), o4]) dX4_ends_65 rfl (Nat.le_of_ble_eq_true rfl) rfl rfl ?_
    refine lp_ends2 (own := ownW w) (f0 := vp_updL f (w.1 H) (f (w.1 H) + 2 * (ownW w).toInt64)) cf hl hg hg3 (fun o4' => ?_) g 0 o4 (by omega)
    refine ew_goto (t := 25) dX4_ends_120 rfl ?_
    exact ih H R' _ _ _ _ _ hZ hE2 (Nat.le_refl _) (lfM_ok hl)
