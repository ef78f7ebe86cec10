-- Obj fields dict_keys(['cls', 'fun', 'sname', 'refs', 'extra', 'ups'])
/-! the component: way, may -/
set_option maxRecDepth 100000
theorem nI_neg : ∀ j, j < 7 → ¬ nI j = -1 ∧ ¬ nI j = -2 ∧ ¬ nI j = -3 := by decide +kernel
theorem wvF_nn {H j : Nat} {w : WY} (hj : j < 7) : wvF H w (nI j) = nI (w.1 j) := by
  unfold wvF
  rw [if_pos (nI_neg j hj).1, if_pos (nI_neg j hj).2.1, if_pos (nI_neg j hj).2.2, nI_clamp (by omega)]
theorem hr_m3 {hr x : Int32} (h : ¬ b2i (inI hr (-3) x) = 0) (h0 : hr < 0) (h1 : ¬ hr = -1) (h2 : ¬ hr = -2) : hr = -3 := by
  have h3 := (inI_iff.mp (b2i_1.mp h)).1
  rw [Int32.le_iff_toInt_le] at h3
  rw [Int32.lt_iff_toInt_lt] at h0
  have e3 : (-3 : Int32).toInt = -3 := by decide
  have e2 : (-2 : Int32).toInt = -2 := by decide
  have e1 : (-1 : Int32).toInt = -1 := by decide
  have e0 : (0 : Int32).toInt = 0 := by decide
  rw [e3] at h3
  rw [e0] at h0
  have n1 : hr.toInt ≠ -1 := fun q => h1 (Int32.toInt_inj.mp (q.trans e1.symm))
  have n2 : hr.toInt ≠ -2 := fun q => h2 (Int32.toInt_inj.mp (q.trans e2.symm))
  exact Int32.toInt_inj.mp ((show hr.toInt = -3 by omega).trans e3.symm)
theorem sl_1 {k : Nat} (h : ¬ nI k = 0) (hk : k < 2) : nI k = 1 := by
  have : k = 1 := by
    have : k ≠ 0 := fun e => h (by rw [e]; rfl)
    omega
  rw [this]; rfl
set_option maxHeartbeats 600000 in
theorem xc_way {l : Launch} {G : GW} {h : AH} {n : Nat} {s ce : Nat → Int32} {F : Nat → Nat → Int32} {a b H T S U g wd : Nat} (hn : 63 ≤ n) (x1 : h 1 = some (XO s)) (x16 : h 16 = some (IA 7 ce)) (xt : XT F h) (wk : WKc F a b H T S U g wd) (sc : scX h) (i hr : Int32) : AM l G yX0_way cX0_way 4 (some .int) 33 2 12 [.ref 1, .int i, .int hr] h n (XQ s h n (.int (wyF H (allW F 0 0 0 a b H T S U) i hr))) := by
  refine AM.of (L := [some (.ref 1), some (.int i), some (.int hr), none]) (by decide) (Nat.le_of_ble_eq_true rfl) rfl ?_
  refine ew_iload_n (t := 1) dX0_way_0 rfl rfl rfl ?_
  refine ew_if_lt (t := 20) (t2 := 4) dX0_way_1 rfl rfl (fun c_1 => ?_) (fun c_1 => ?_)
  · refine ew_icm1 (t := 21) dX0_way_20 rfl ?_
    exact ew_iret rfl dX0_way_21 (by decide) (by decide) (by rw [show wyF H (allW F 0 0 0 a b H T S U) i hr = -1 from if_pos c_1]; exact XQ.same x1 sc)
  · refine ew_iload_n (t := 5) dX0_way_4 rfl rfl rfl ?_
    refine ew_bipush (t := 7) (v := (-3)) dX0_way_5 (by decide) rfl ?_
    refine ew_aload_n (t := 8) dX0_way_7 rfl rfl rfl ?_
    refine ew_get (t := 11) (j := 0) (v := .ref 2) fcX0 x1 (Nat.le_of_ble_eq_true rfl) q255 rfl dX0_way_8 rfl ?_
    refine ew_callV (t := 14) (As := []) (ax_hours xt.1 xt.2.1) (fcX1).1 xt.1 (lw_V q446 q447 q448 q52 q449) rfl naX1_hours dX0_way_11 rfl (Nat.le_of_ble_eq_true rfl) (Nat.le_of_ble_eq_true rfl) (by omega) (by omega) (Nat.le_of_ble_eq_true rfl) rfl (qi ?_)
    rw [wk.2.2.2.2.1]
    refine ew_callS (t := 17) (As := [_, _, _]) (ax_isIn _ _ _) (lw_S q330 q331 q51 q332) naX0_isIn dX0_way_14 rfl (Nat.le_of_ble_eq_true rfl) (Nat.le_of_ble_eq_true rfl) (by omega) (by omega) (Nat.le_of_ble_eq_true rfl) rfl (qi ?_)
    refine ew_if_ne (t := 22) (t2 := 20) dX0_way_17 rfl rfl (fun c_17 => ?_) (fun c_17 => ?_)
    · obtain ⟨ii, hii, rfl⟩ := nI_of c_1
      refine ew_aload_n (t := 23) dX0_way_22 rfl rfl rfl ?_
      refine ew_iload_n (t := 24) dX0_way_23 rfl rfl rfl ?_
      refine ew_callV (t := 27) (As := [_]) (ax_sought hn x1 x16 xt wk ii) (fcX0).1 x1 (lw_V q493 q495 qs17 q51 q496) rfl naX0_sought dX0_way_24 rfl (Nat.le_of_ble_eq_true rfl) (Nat.le_of_ble_eq_true rfl) (by omega) (by omega) (Nat.le_of_ble_eq_true rfl) rfl (fun rr h9 n9 qq => ?_)
      obtain ⟨rfl, qn, hb', s', ce', hk', rfl, kp⟩ := qq
      subst qn
      rw [fold_S _ ii (by omega)] at hk'
      by_cases cl : ii < (allW F 0 0 0 a b H T S U).length
      · rw [if_pos cl] at hk'
        obtain ⟨w, ew⟩ : ∃ w, (allW F 0 0 0 a b H T S U)[ii]? = some w := ⟨_, List.getElem?_eq_getElem cl⟩
        obtain ⟨sw, su, ss, sc', rfl, hw⟩ := hk'
        obtain ⟨rfl, rfl, rfl, hsl, hsc⟩ := hw w ew
        refine ew_astore_n (t := 28) (L' := [some (.ref 1), some (.int (nI ii)), some (.int hr), some (.ref n)]) dX0_way_27 rfl (Nat.le_of_ble_eq_true rfl) rfl rfl ?_
        refine ew_aload_n (t := 29) dX0_way_28 rfl rfl rfl ?_
        refine ew_getN (t := 32) (j := 0) (v := .int (-1)) fcX7 ((XH_hi (by omega)).trans hv_hit) (Nat.le_of_ble_eq_true rfl) q504 rfl dX0_way_29 rfl ?_
        refine ew_if_lt (t := 38) (t2 := 35) dX0_way_32 rfl rfl (fun c_32 => ?_) (fun c_32 => ?_)
        · refine ew_iload_n (t := 39) dX0_way_38 rfl rfl rfl ?_
          refine ew_if_lt (t := 51) (t2 := 42) dX0_way_39 rfl rfl (fun c_39 => ?_) (fun c_39 => ?_)
          · refine ew_iload_n (t := 52) dX0_way_51 rfl rfl rfl ?_
            refine ew_icm1 (t := 53) dX0_way_52 rfl ?_
            refine ew_icmp_ne (t := 63) (t2 := 56) dX0_way_53 rfl rfl (fun c_53 => ?_) (fun c_53 => ?_)
            · refine ew_iload_n (t := 64) dX0_way_63 rfl rfl rfl ?_
              refine ew_bipush (t := 66) (v := (-2)) dX0_way_64 (by decide) rfl ?_
              refine ew_icmp_ne (t := 76) (t2 := 69) dX0_way_66 rfl rfl (fun c_66 => ?_) (fun c_66 => ?_)
              · refine ew_aload_n (t := 77) dX0_way_76 rfl rfl rfl ?_
                refine ew_getN (t := 80) (j := 3) (v := .int (nI w.2.2.2.1)) fcX7 ((XH_hi (by omega)).trans hv_hit) (Nat.le_of_ble_eq_true rfl) q510 rfl dX0_way_77 rfl ?_
                refine ew_if_eq (t := 87) (t2 := 83) dX0_way_80 rfl rfl (fun c_80 => ?_) (fun c_80 => ?_)
                · refine ew_ic0 (t := 88) dX0_way_87 rfl ?_
                  exact ew_iret rfl dX0_way_88 (by decide) (by decide) (by rw [show wyF H (allW F 0 0 0 a b H T S U) (nI ii) hr = 0 from by unfold wyF; rw [if_neg c_1, show inL hr.toInt64 (-3) (nI H).toInt64 = inI hr (-3) (nI H) from inL_I hr (-3) (nI H), if_pos c_17, nI_clamp (n := ii) (by omega), ew]; show wvF H w hr = _; unfold wvF; rw [if_pos c_53, if_pos c_66, if_neg (not_not_intro (hr_m3 c_17 c_39 c_53 c_66))]; exact c_80]; exact XQ.of sc (fun k hk => below2 hk) hn (by omega) kp)
                · refine ew_ic1 (t := 84) dX0_way_83 rfl ?_
                  refine ew_goto (t := 88) dX0_way_84 rfl ?_
                  exact ew_iret rfl dX0_way_88 (by decide) (by decide) (by rw [show wyF H (allW F 0 0 0 a b H T S U) (nI ii) hr = 1 from by unfold wyF; rw [if_neg c_1, show inL hr.toInt64 (-3) (nI H).toInt64 = inI hr (-3) (nI H) from inL_I hr (-3) (nI H), if_pos c_17, nI_clamp (n := ii) (by omega), ew]; show wvF H w hr = _; unfold wvF; rw [if_pos c_53, if_pos c_66, if_neg (not_not_intro (hr_m3 c_17 c_39 c_53 c_66))]; exact sl_1 c_80 hsl]; exact XQ.of sc (fun k hk => below2 hk) hn (by omega) kp)
              · refine ew_aload_n (t := 70) dX0_way_69 rfl rfl rfl ?_
                refine ew_getN (t := 73) (j := 2) (v := .int (nI w.2.2.1)) fcX7 ((XH_hi (by omega)).trans hv_hit) (Nat.le_of_ble_eq_true rfl) q508 rfl dX0_way_70 rfl ?_
                refine ew_goto (t := 88) dX0_way_73 rfl ?_
                exact ew_iret rfl dX0_way_88 (by decide) (by decide) (by rw [show wyF H (allW F 0 0 0 a b H T S U) (nI ii) hr = (nI w.2.2.1) from by unfold wyF; rw [if_neg c_1, show inL hr.toInt64 (-3) (nI H).toInt64 = inI hr (-3) (nI H) from inL_I hr (-3) (nI H), if_pos c_17, nI_clamp (n := ii) (by omega), ew]; show wvF H w hr = _; unfold wvF; rw [if_pos c_53, if_neg (not_not_intro c_66)]]; exact XQ.of sc (fun k hk => below2 hk) hn (by omega) kp)
            · refine ew_aload_n (t := 57) dX0_way_56 rfl rfl rfl ?_
              refine ew_getN (t := 60) (j := 1) (v := .int (ownW w)) fcX7 ((XH_hi (by omega)).trans hv_hit) (Nat.le_of_ble_eq_true rfl) q506 rfl dX0_way_57 rfl ?_
              refine ew_goto (t := 88) dX0_way_60 rfl ?_
              exact ew_iret rfl dX0_way_88 (by decide) (by decide) (by rw [show wyF H (allW F 0 0 0 a b H T S U) (nI ii) hr = (ownW w) from by unfold wyF; rw [if_neg c_1, show inL hr.toInt64 (-3) (nI H).toInt64 = inI hr (-3) (nI H) from inL_I hr (-3) (nI H), if_pos c_17, nI_clamp (n := ii) (by omega), ew]; show wvF H w hr = _; unfold wvF; rw [if_neg (not_not_intro c_53)]; rfl]; exact XQ.of sc (fun k hk => below2 hk) hn (by omega) kp)
          · obtain ⟨j, hj, rfl⟩ := in_hr (H := H) (hr := hr) (by have := wk.2.2.2.2.2.2.1; omega) (by rw [show inL hr.toInt64 (-3) (nI H).toInt64 = inI hr (-3) (nI H) from inL_I hr (-3) (nI H)]; exact c_17) (fun q => c_39 (by rw [q]; decide)) (fun q => c_39 (by rw [q]; decide)) (fun q => c_39 (by rw [q]; decide))
            have hH6 := wk.2.2.2.2.2.2.1
            refine ew_aload_n (t := 43) dX0_way_42 rfl rfl rfl ?_
            refine ew_getN (t := 46) (j := 4) (v := .ref (n + 1)) fcX7 ((XH_hi (by omega)).trans hv_hit) (Nat.le_of_ble_eq_true rfl) q512 rfl dX0_way_43 rfl ?_
            refine ew_iload_n (t := 47) dX0_way_46 rfl rfl rfl ?_
            refine ew_iald (t := 48) (j := j) (N := 7) ((XH_hi (by omega)).trans ((hv_miss (by omega)).trans hv_hit)) (vp_in_nI (by omega) (by omega)) (nI_clamp (by omega)) dX0_way_47 rfl ?_
            rw [(hsc j hj).1]
            refine ew_goto (t := 88) dX0_way_48 rfl ?_
            exact ew_iret rfl dX0_way_88 (by decide) (by decide) (by rw [show wyF H (allW F 0 0 0 a b H T S U) (nI ii) (nI j) = nI (w.1 j) from by unfold wyF; rw [if_neg c_1, show inL (nI j).toInt64 (-3) (nI H).toInt64 = inI (nI j) (-3) (nI H) from inL_I (nI j) (-3) (nI H), if_pos c_17, nI_clamp (n := ii) (by omega), ew]; show wvF H w (nI j) = _; exact wvF_nn (by omega)]; exact XQ.of sc (fun k hk => below2 hk) hn (by omega) kp)
        · exact absurd c_32 (by decide)
      · rw [if_neg cl] at hk'
        obtain ⟨sw, su, ss, sc', rfl, -⟩ := hk'
        refine ew_astore_n (t := 28) (L' := [some (.ref 1), some (.int (nI ii)), some (.int hr), some (.ref n)]) dX0_way_27 rfl (Nat.le_of_ble_eq_true rfl) rfl rfl ?_
        refine ew_aload_n (t := 29) dX0_way_28 rfl rfl rfl ?_
        refine ew_getN (t := 32) (j := 0) (v := .int (nI (ii - (allW F 0 0 0 a b H T S U).length))) fcX7 ((XH_hi (by omega)).trans hv_hit) (Nat.le_of_ble_eq_true rfl) q504 rfl dX0_way_29 rfl ?_
        refine ew_if_lt (t := 38) (t2 := 35) dX0_way_32 rfl rfl (fun c_32 => ?_) (fun c_32 => ?_)
        · exact absurd c_32 (nI_pos (by omega))
        · refine ew_bipush (t := 37) (v := (-4)) dX0_way_35 (by decide) rfl ?_
          exact ew_iret rfl dX0_way_37 (by decide) (by decide) (by rw [show wyF H (allW F 0 0 0 a b H T S U) (nI ii) hr = -4 from by unfold wyF; rw [if_neg c_1, show inL hr.toInt64 (-3) (nI H).toInt64 = inI hr (-3) (nI H) from inL_I hr (-3) (nI H), if_pos c_17, nI_clamp (n := ii) (by omega), show (allW F 0 0 0 a b H T S U)[ii]? = none from List.getElem?_eq_none (by omega)]; rfl]; exact XQ.of sc (fun k hk => below2 hk) hn (by omega) kp)
    · refine ew_icm1 (t := 21) dX0_way_20 rfl ?_
      exact ew_iret rfl dX0_way_21 (by decide) (by decide) (by rw [show wyF H (allW F 0 0 0 a b H T S U) i hr = -1 from by unfold wyF; rw [if_neg c_1, show inL hr.toInt64 (-3) (nI H).toInt64 = inI hr (-3) (nI H) from inL_I hr (-3) (nI H), if_neg (not_not_intro c_17)]]; exact XQ.same x1 sc)
