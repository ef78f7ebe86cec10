-- Obj fields dict_keys(['cls', 'fun', 'sname', 'refs', 'extra', 'ups'])
/-! the component: far, drift, fits -/
set_option maxRecDepth 100000
set_option maxHeartbeats 600000 in
theorem xc_far {l : Launch} {G : GW} {h : AH} {n : Nat} {s : Nat → Int32} {F : Nat → Nat → Int32} {np nd n2 : Nat} (x1 : h 1 = some (XO s)) (sc : scX h) (xr : XR F np nd h n2) {a : Nat} (hF : F 34 0 = nI a) (ha : a < 100) (c : Int32) : AM l G yX0_far cX0_far 2 (some .int) 2 0 0 [.ref 1, .int c] h n (XQ s h n (.int (farF a c))) := by
  refine AM.of (L := [some (.ref 1), some (.int c)]) (by decide) (Nat.le_of_ble_eq_true rfl) rfl ?_
  have xt := xr.2.1
  refine ew_iload_n (t := 1) dX0_far_0 rfl rfl rfl ?_
  refine ew_callS (t := 4) (As := [_]) (ax_isCell  _) (lw_S q333 q334 q51 q335) naX0_isCell dX0_far_1 rfl (Nat.le_of_ble_eq_true rfl) (Nat.le_of_ble_eq_true rfl) (Nat.le_refl _) (Nat.le_refl _) (Nat.le_of_ble_eq_true rfl) rfl (qi ?_)
  refine ew_if_eq (t := 18) (t2 := 7) dX0_far_4 rfl rfl (fun c_4 => ?_) (fun c_4 => ?_)
  · refine ew_icm1 (t := 19) dX0_far_18 rfl ?_
    exact ew_iret rfl dX0_far_19 (Nat.le_refl _) (Nat.le_refl _) (by rw [show farF a c = -1 from if_pos c_4]; exact XQ.same x1 sc)
  · obtain ⟨j, hj, rfl⟩ := in99 c_4
    refine ew_aload_n (t := 8) dX0_far_7 rfl rfl rfl ?_
    refine ew_get (t := 11) (j := 0) (v := .ref 2) fcX0 x1 (Nat.le_of_ble_eq_true rfl) q255 rfl dX0_far_8 rfl ?_
    refine ew_iload_n (t := 12) dX0_far_11 rfl rfl rfl ?_
    refine ew_callV (t := 15) (As := [_]) (ax_tfar (a := a) (b := j) xt.1 xt.2.1 hF ha hj) (fcX1).1 xt.1 (lw_V q340 q341 q342 q52 q343) rfl naX1_far dX0_far_12 rfl (Nat.le_of_ble_eq_true rfl) (Nat.le_of_ble_eq_true rfl) (Nat.le_refl _) (Nat.le_refl _) (Nat.le_of_ble_eq_true rfl) rfl (qi ?_)
    refine ew_goto (t := 19) dX0_far_15 rfl ?_
    exact ew_iret rfl dX0_far_19 (Nat.le_refl _) (Nat.le_refl _) (by rw [show farF a (nI j) = nI (awayF a j) from by unfold farF; rw [if_neg c_4, nI_clamp (n := j) (by omega)]]; exact XQ.same x1 sc)
set_option maxHeartbeats 600000 in
theorem xc_drift {l : Launch} {G : GW} {h : AH} {n : Nat} {s : Nat → Int32} {F : Nat → Nat → Int32} {np nd n2 : Nat} (x1 : h 1 = some (XO s)) (sc : scX h) (xr : XR F np nd h n2) (ok : OKP F np nd) (c mo hi : Int32) : AM l G yX0_drift cX0_drift 4 (some .int) 4 0 0 [.ref 1, .int c, .int mo, .int hi] h n (XQ s h n (.int (drfF F c mo hi))) := by
  refine AM.of (L := [some (.ref 1), some (.int c), some (.int mo), some (.int hi)]) (by decide) (Nat.le_of_ble_eq_true rfl) rfl ?_
  have xt := xr.2.1
  refine ew_iload_n (t := 1) dX0_drift_0 rfl rfl rfl ?_
  refine ew_callS (t := 4) (As := [_]) (ax_isCell  _) (lw_S q333 q334 q51 q335) naX0_isCell dX0_drift_1 rfl (Nat.le_of_ble_eq_true rfl) (Nat.le_of_ble_eq_true rfl) (Nat.le_refl _) (Nat.le_refl _) (Nat.le_of_ble_eq_true rfl) rfl (qi ?_)
  refine ew_if_eq (t := 36) (t2 := 7) dX0_drift_4 rfl rfl (fun c_4 => ?_) (fun c_4 => ?_)
  · refine ew_icm1 (t := 37) dX0_drift_36 rfl ?_
    exact ew_iret rfl dX0_drift_37 (Nat.le_refl _) (Nat.le_refl _) (by rw [show drfF F c mo hi = -1 from by unfold drfF; rw [if_pos c_4]]; exact XQ.same x1 sc)
  · refine ew_iload_n (t := 8) dX0_drift_7 rfl rfl rfl ?_
    refine ew_ic0 (t := 9) dX0_drift_8 rfl ?_
    refine ew_bipush (t := 11) (v := 24) dX0_drift_9 (by decide) rfl ?_
    refine ew_callS (t := 14) (As := [_, _, _]) (ax_isIn _ _ _) (lw_S q330 q331 q51 q332) naX0_isIn dX0_drift_11 rfl (Nat.le_of_ble_eq_true rfl) (Nat.le_of_ble_eq_true rfl) (Nat.le_refl _) (Nat.le_refl _) (Nat.le_of_ble_eq_true rfl) rfl (qi ?_)
    refine ew_if_eq (t := 36) (t2 := 17) dX0_drift_14 rfl rfl (fun c_14 => ?_) (fun c_14 => ?_)
    · refine ew_icm1 (t := 37) dX0_drift_36 rfl ?_
      exact ew_iret rfl dX0_drift_37 (Nat.le_refl _) (Nat.le_refl _) (by rw [show drfF F c mo hi = -1 from by unfold drfF; rw [if_neg c_4, show inL mo.toInt64 0 24 = inI mo 0 24 from inL_I mo 0 24, if_pos c_14]]; exact XQ.same x1 sc)
    · refine ew_iload_n (t := 18) dX0_drift_17 rfl rfl rfl ?_
      refine ew_ic0 (t := 19) dX0_drift_18 rfl ?_
      refine ew_ic1 (t := 20) dX0_drift_19 rfl ?_
      refine ew_callS (t := 23) (As := [_, _, _]) (ax_isIn _ _ _) (lw_S q330 q331 q51 q332) naX0_isIn dX0_drift_20 rfl (Nat.le_of_ble_eq_true rfl) (Nat.le_of_ble_eq_true rfl) (Nat.le_refl _) (Nat.le_refl _) (Nat.le_of_ble_eq_true rfl) rfl (qi ?_)
      refine ew_if_eq (t := 36) (t2 := 26) dX0_drift_23 rfl rfl (fun c_23 => ?_) (fun c_23 => ?_)
      · refine ew_icm1 (t := 37) dX0_drift_36 rfl ?_
        exact ew_iret rfl dX0_drift_37 (Nat.le_refl _) (Nat.le_refl _) (by rw [show drfF F c mo hi = -1 from by unfold drfF; rw [if_neg c_4, show inL mo.toInt64 0 24 = inI mo 0 24 from inL_I mo 0 24, if_neg c_14, show inL hi.toInt64 0 1 = inI hi 0 1 from inL_I hi 0 1, if_pos c_23]]; exact XQ.same x1 sc)
      · obtain ⟨j, hj, rfl⟩ := in99 c_4
        have c_14' : ¬ b2i (inL mo.toInt64 0 24) = 0 := by rw [show inL mo.toInt64 0 24 = inI mo 0 24 from inL_I mo 0 24]; exact c_14
        obtain ⟨N, hN, rfl⟩ := inL24 c_14'
        refine ew_aload_n (t := 27) dX0_drift_26 rfl rfl rfl ?_
        refine ew_iload_n (t := 28) dX0_drift_27 rfl rfl rfl ?_
        refine ew_iload_n (t := 29) dX0_drift_28 rfl rfl rfl ?_
        refine ew_iload_n (t := 30) dX0_drift_29 rfl rfl rfl ?_
        refine ew_callV (t := 33) (As := [_, _, _]) (ax_drifted (b := j) (N := N) (hi := hi) x1 xt.1 xt.2.1 xt.2.2.2.2.1 ok.2.2.1 ok.2.2.2 (in01 c_23) hj hN) (fcX0).1 x1 (lw_V q658 q660 qs21 q51 q661) rfl naX0_drifted dX0_drift_30 rfl (Nat.le_of_ble_eq_true rfl) (Nat.le_of_ble_eq_true rfl) (Nat.le_refl _) (Nat.le_refl _) (Nat.le_of_ble_eq_true rfl) rfl (qi ?_)
        refine ew_goto (t := 37) dX0_drift_33 rfl ?_
        exact ew_iret rfl dX0_drift_37 (Nat.le_refl _) (Nat.le_refl _) (by rw [show drfF F (nI j) (nI N) hi = nI (drIt (F 37) (F 34 7) hi j N) from by unfold drfF; rw [if_neg c_4, if_neg c_14', show inL hi.toInt64 0 1 = inI hi 0 1 from inL_I hi 0 1, if_neg c_23, nI_clamp (n := j) (by omega), nI_clamp (n := N) (by omega)]]; exact XQ.same x1 sc)
set_option maxHeartbeats 600000 in
theorem xc_fits {l : Launch} {G : GW} {h : AH} {n : Nat} {s : Nat → Int32} {F : Nat → Nat → Int32} {np nd n2 : Nat} (x1 : h 1 = some (XO s)) (sc : scX h) (xr : XR F np nd h n2) (ok : OKP F np nd) (p c : Int32) : AM l G yX0_fits cX0_fits 3 (some .int) 4 0 0 [.ref 1, .int p, .int c] h n (XQ s h n (.int (ftsF F np p c))) := by
  refine AM.of (L := [some (.ref 1), some (.int p), some (.int c)]) (by decide) (Nat.le_of_ble_eq_true rfl) rfl ?_
  have xt := xr.2.1
  have hnp := xr.2.2.1.1
  have hnd := xr.2.2.2.1
  obtain ⟨mo, e, xc, hsz⟩ := xr.2.2.1.size
  obtain ⟨md, ed, xd, hsd⟩ := xr.2.2.2.size
  refine ew_iload_n (t := 1) dX0_fits_0 rfl rfl rfl ?_
  refine ew_ic0 (t := 2) dX0_fits_1 rfl ?_
  refine ew_aload_n (t := 3) dX0_fits_2 rfl rfl rfl ?_
  refine ew_get (t := 6) (j := 0) (v := .ref 2) fcX0 x1 (Nat.le_of_ble_eq_true rfl) q255 rfl dX0_fits_3 rfl ?_
  refine ew_getN (t := 9) (j := 6) (v := .ref 9) fcX1 xt.1 (Nat.le_of_ble_eq_true rfl) q140 rfl dX0_fits_6 rfl ?_
  refine ew_callF (t := 14) (As := []) (hsz l G n) (fcJ2).1 xc (lw_F q557 q561 q563 q55 q565) fw_size naI_J2_size dX0_fits_9 rfl (Nat.le_of_ble_eq_true rfl) (Nat.le_of_ble_eq_true rfl) (Nat.le_refl _) (Nat.le_refl _) (Nat.le_of_ble_eq_true rfl) rfl (qi ?_)
  refine ew_ic1 (t := 15) dX0_fits_14 rfl ?_
  refine ew_isub (t := 16) dX0_fits_15 rfl ?_
  refine ew_callS (t := 19) (As := [_, _, _]) (ax_isIn _ _ _) (lw_S q330 q331 q51 q332) naX0_isIn dX0_fits_16 rfl (Nat.le_of_ble_eq_true rfl) (Nat.le_of_ble_eq_true rfl) (Nat.le_refl _) (Nat.le_refl _) (Nat.le_of_ble_eq_true rfl) rfl (qi ?_)
  refine ew_if_eq (t := 56) (t2 := 22) dX0_fits_19 rfl rfl (fun c_19 => ?_) (fun c_19 => ?_)
  · refine ew_icm1 (t := 57) dX0_fits_56 rfl ?_
    exact ew_iret rfl dX0_fits_57 (Nat.le_refl _) (Nat.le_refl _) (by rw [show ftsF F np p c = -1 from by unfold ftsF; rw [show inL p.toInt64 0 (nI np - 1).toInt64 = inI p 0 (nI np - 1) from inL_I p 0 (nI np - 1), if_pos c_19]]; exact XQ.same x1 sc)
  · refine ew_iload_n (t := 23) dX0_fits_22 rfl rfl rfl ?_
    refine ew_callS (t := 26) (As := [_]) (ax_isCell  _) (lw_S q333 q334 q51 q335) naX0_isCell dX0_fits_23 rfl (Nat.le_of_ble_eq_true rfl) (Nat.le_of_ble_eq_true rfl) (Nat.le_refl _) (Nat.le_refl _) (Nat.le_of_ble_eq_true rfl) rfl (qi ?_)
    refine ew_if_eq (t := 56) (t2 := 29) dX0_fits_26 rfl rfl (fun c_26 => ?_) (fun c_26 => ?_)
    · refine ew_icm1 (t := 57) dX0_fits_56 rfl ?_
      exact ew_iret rfl dX0_fits_57 (Nat.le_refl _) (Nat.le_refl _) (by rw [show ftsF F np p c = -1 from by unfold ftsF; rw [show inL p.toInt64 0 (nI np - 1).toInt64 = inI p 0 (nI np - 1) from inL_I p 0 (nI np - 1), if_neg c_19, if_pos c_26]]; exact XQ.same x1 sc)
    · obtain ⟨j, hj, rfl⟩ := in99 c_26
      have c_19' : ¬ b2i (inL p.toInt64 0 (nI np - 1).toInt64) = 0 := by rw [show inL p.toInt64 0 (nI np - 1).toInt64 = inI p 0 (nI np - 1) from inL_I p 0 (nI np - 1)]; exact c_19
      obtain ⟨k, hk, rfl⟩ := inP hnp c_19'
      refine ew_aload_n (t := 30) dX0_fits_29 rfl rfl rfl ?_
      refine ew_get (t := 33) (j := 0) (v := .ref 2) fcX0 x1 (Nat.le_of_ble_eq_true rfl) q255 rfl dX0_fits_30 rfl ?_
      refine ew_getN (t := 36) (j := 6) (v := .ref 9) fcX1 xt.1 (Nat.le_of_ble_eq_true rfl) q140 rfl dX0_fits_33 rfl ?_
      refine ew_iload_n (t := 37) dX0_fits_36 rfl rfl rfl ?_
      obtain ⟨mo2, e2, pp, xc2, hp1, hp2, xp, hget⟩ := xr.2.2.1.get (k := k) hk
      refine ew_callF (t := 42) (As := [_]) (hget l G n) (fcJ2).1 xc (lw_F q672 q675 q677 q55 q679) fw_get naI_J2_get dX0_fits_37 rfl (Nat.le_of_ble_eq_true rfl) (Nat.le_of_ble_eq_true rfl) (Nat.le_refl _) (Nat.le_refl _) (Nat.le_of_ble_eq_true rfl) rfl (qr ?_)
      refine ew_castO (t := 45) (fcX9).1 xp q566 dX0_fits_42 rfl ?_
      refine ew_aload_n (t := 46) dX0_fits_45 rfl rfl rfl ?_
      refine ew_get (t := 49) (j := 0) (v := .ref 2) fcX0 x1 (Nat.le_of_ble_eq_true rfl) q255 rfl dX0_fits_46 rfl ?_
      refine ew_iload_n (t := 50) dX0_fits_49 rfl rfl rfl ?_
      obtain ⟨c0, N, hc0, hN, ec0, eN⟩ := ok.1 k hk
      refine ew_callV (t := 53) (As := [_, _]) (ax_fits (i := 5 * k) (b := j) xr.2.1.1 xr.2.1.2.1 xr.2.1.2.2.2.2.1 ok.2.2.1 ok.2.2.2 xr.2.1.2.2.2.2.2.1 xp hj hN eN hc0 ec0) (fcX9).1 xp (lw_V q690 q691 q692 q67 q693) rfl naX9_fits dX0_fits_50 rfl (Nat.le_of_ble_eq_true rfl) (Nat.le_of_ble_eq_true rfl) (Nat.le_refl _) (Nat.le_refl _) (Nat.le_of_ble_eq_true rfl) rfl (qi ?_)
      refine ew_goto (t := 57) dX0_fits_53 rfl ?_
      exact ew_iret rfl dX0_fits_57 (Nat.le_refl _) (Nat.le_refl _) (by rw [show ftsF F np (nI k) (nI j) = fitF (F 52) (F 37) (F 38) (F 34 7) (5 * k) j from by unfold ftsF; rw [if_neg c_19', if_neg c_26, nI_clamp (n := k) (by omega), nI_clamp (n := j) (by omega)]]; exact XQ.same x1 sc)
