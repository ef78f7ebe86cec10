-- Obj fields dict_keys(['cls', 'fun', 'sname', 'refs', 'extra', 'ups'])
/-! the component: lacks -/
set_option maxRecDepth 100000
theorem szI : ∀ z, z < 17 → ∀ H, H < 7 → (nI z - nI H - 1).toInt = (z : Int) - (H : Int) - 1 := by decide +kernel
theorem lk_le {i : Int32} {z H : Nat} (hz : z ≤ 16) (hH : H ≤ 6) (hi : ¬ i < 0) : (i ≤ nI z - nI H - 1) ↔ (i.toInt64 + (nI (H + 1)).toInt64 ≤ (nI z).toInt64) := by
  obtain ⟨k, hk, rfl⟩ := nI_of hi
  rw [nI_l (by omega), nI_l (by omega), nI_l (by omega), lN_add, pk_lLE (by omega) (by omega), Int32.le_iff_toInt_le, szI z (by omega) H (by omega), nI_toInt (by omega)]
  omega
set_option maxHeartbeats 600000 in
theorem ax_lacks {l : Launch} {G : GW} {h : AH} {n : Nat} {s : Nat → Int32} {F : Nat → Nat → Int32} {rr : Nat → Nat} {n2 t H : Nat} (x1 : h 1 = some (XO s)) (xt : XT F h) (sh : SHx F h n2 rr) (hFH : F 34 2 = nI H) (hH : H ≤ 6) (ht : t < 4) (lane i : Int32) : AM l G yX0_lacks cX0_lacks 5 (some .int) 2 0 0 [.ref 1, .int (nI t), .int lane, .int i] h n (Qi (refI (F 59) (F 60) t lane i (nI (H + 1))) h n) := by
  refine AM.of (L := [some (.ref 1), some (.int (nI t)), some (.int lane), some (.int i), none]) (by decide) (Nat.le_of_ble_eq_true rfl) rfl ?_
  rcases sh.2 t ht with ⟨q1, q2⟩ | ⟨ln, z, f, q1, q2, q3, q4, q5, q6, q7, q8, q9⟩
  · refine ew_aload_n (t := 1) dX0_lacks_0 rfl rfl rfl ?_
    refine ew_get (t := 4) (j := 20) (v := .ref 28) fcX0 x1 (Nat.le_of_ble_eq_true rfl) q282 rfl dX0_lacks_1 rfl ?_
    refine ew_iload_n (t := 5) dX0_lacks_4 rfl rfl rfl ?_
    refine ew_aald6 (t := 6) (j := t) sh.1 (vp_in_nI ht (by omega)) (nI_clamp (by omega)) dX0_lacks_5 rfl ?_
    rw [show va_rf (shT t) = .ref (29 + t) from rfl]
    refine ew_astore (t := 8) (L' := [some (.ref 1), some (.int (nI t)), some (.int lane), some (.int i), some (.ref (29 + t))]) dX0_lacks_6 (Nat.le_of_ble_eq_true rfl) rfl rfl ?_
    refine ew_aload (t := 10) dX0_lacks_8 rfl rfl ?_
    refine ew_getN (t := 13) (j := 0) (v := .null) fcX3 q2 (Nat.le_of_ble_eq_true rfl) q248 rfl dX0_lacks_10 rfl ?_
    refine ew_ifnonnullN (t := 16) dX0_lacks_13 rfl ?_
    refine ew_bipush (t := 18) (v := (-11)) dX0_lacks_16 (by decide) rfl ?_
    exact ew_iret rfl dX0_lacks_18 (Nat.le_refl _) (Nat.le_refl _) ⟨by rw [show refI (F 59) (F 60) t lane i (nI (H + 1)) = -11 from by unfold refI; rw [if_neg (Int32.not_le.mpr q1)]], rfl, rfl⟩
  · refine ew_aload_n (t := 1) dX0_lacks_0 rfl rfl rfl ?_
    refine ew_get (t := 4) (j := 20) (v := .ref 28) fcX0 x1 (Nat.le_of_ble_eq_true rfl) q282 rfl dX0_lacks_1 rfl ?_
    refine ew_iload_n (t := 5) dX0_lacks_4 rfl rfl rfl ?_
    refine ew_aald6 (t := 6) (j := t) sh.1 (vp_in_nI ht (by omega)) (nI_clamp (by omega)) dX0_lacks_5 rfl ?_
    rw [show va_rf (shT t) = .ref (29 + t) from rfl]
    refine ew_astore (t := 8) (L' := [some (.ref 1), some (.int (nI t)), some (.int lane), some (.int i), some (.ref (29 + t))]) dX0_lacks_6 (Nat.le_of_ble_eq_true rfl) rfl rfl ?_
    refine ew_aload (t := 10) dX0_lacks_8 rfl rfl ?_
    refine ew_getN (t := 13) (j := 0) (v := .ref (rr t)) fcX3 q7 (Nat.le_of_ble_eq_true rfl) q248 rfl dX0_lacks_10 rfl ?_
    refine ew_ifnonnull (t := 19) dX0_lacks_13 rfl ?_
    refine ew_aload (t := 21) dX0_lacks_19 rfl rfl ?_
    refine ew_callV (t := 24) (As := []) (ax_laneR q1 q7 q8) (fcX3).1 q7 (lw_V q812 q813 q814 q59 q815) rfl naX3_lane dX0_lacks_21 rfl (Nat.le_of_ble_eq_true rfl) (Nat.le_of_ble_eq_true rfl) (Nat.le_refl _) (Nat.le_refl _) (Nat.le_of_ble_eq_true rfl) rfl (qi ?_)
    refine ew_iload_n (t := 25) dX0_lacks_24 rfl rfl rfl ?_
    refine ew_icmp_eq (t := 31) (t2 := 28) dX0_lacks_25 rfl rfl (fun c_25 => ?_) (fun c_25 => ?_)
    · refine ew_iload_n (t := 32) dX0_lacks_31 rfl rfl rfl ?_
      refine ew_if_lt (t := 54) (t2 := 35) dX0_lacks_32 rfl rfl (fun c_32 => ?_) (fun c_32 => ?_)
      · refine ew_bipush (t := 56) (v := (-13)) dX0_lacks_54 (by decide) rfl ?_
        refine ew_goto (t := 60) dX0_lacks_56 rfl ?_
        exact ew_iret rfl dX0_lacks_60 (Nat.le_refl _) (Nat.le_refl _) ⟨by rw [show refI (F 59) (F 60) t lane i (nI (H + 1)) = -13 from by unfold refI; rw [if_pos (show 0 ≤ F 59 t by rw [q3]; exact nI_nn (by omega)), if_pos (q3.trans c_25), if_pos c_32]], rfl, rfl⟩
      · refine ew_iload_n (t := 36) dX0_lacks_35 rfl rfl rfl ?_
        refine ew_aload (t := 38) dX0_lacks_36 rfl rfl ?_
        refine ew_callV (t := 41) (As := []) (ax_sizeR q1 q7 q8) (fcX3).1 q7 (lw_V q818 q819 q820 q59 q821) rfl naX3_size dX0_lacks_38 rfl (Nat.le_of_ble_eq_true rfl) (Nat.le_of_ble_eq_true rfl) (Nat.le_refl _) (Nat.le_refl _) (Nat.le_of_ble_eq_true rfl) rfl (qi ?_)
        refine ew_aload_n (t := 42) dX0_lacks_41 rfl rfl rfl ?_
        refine ew_get (t := 45) (j := 0) (v := .ref 2) fcX0 x1 (Nat.le_of_ble_eq_true rfl) q255 rfl dX0_lacks_42 rfl ?_
        refine ew_callV (t := 48) (As := []) (ax_hours xt.1 xt.2.1) (fcX1).1 xt.1 (lw_V q446 q447 q448 q52 q449) rfl naX1_hours dX0_lacks_45 rfl (Nat.le_of_ble_eq_true rfl) (Nat.le_of_ble_eq_true rfl) (Nat.le_refl _) (Nat.le_refl _) (Nat.le_of_ble_eq_true rfl) rfl (qi ?_)
        rw [hFH]
        refine ew_isub (t := 49) dX0_lacks_48 rfl ?_
        refine ew_ic1 (t := 50) dX0_lacks_49 rfl ?_
        refine ew_isub (t := 51) dX0_lacks_50 rfl ?_
        refine ew_icmp_le (t := 59) (t2 := 54) dX0_lacks_51 rfl rfl (fun c_51 => ?_) (fun c_51 => ?_)
        · refine ew_ic0 (t := 60) dX0_lacks_59 rfl ?_
          exact ew_iret rfl dX0_lacks_60 (Nat.le_refl _) (Nat.le_refl _) ⟨by rw [show refI (F 59) (F 60) t lane i (nI (H + 1)) = 0 from by unfold refI; rw [if_pos (show 0 ≤ F 59 t by rw [q3]; exact nI_nn (by omega)), if_pos (q3.trans c_25), if_neg c_32, q4, if_pos ((lk_le q2 hH c_32).mp c_51)]], rfl, rfl⟩
        · refine ew_bipush (t := 56) (v := (-13)) dX0_lacks_54 (by decide) rfl ?_
          refine ew_goto (t := 60) dX0_lacks_56 rfl ?_
          exact ew_iret rfl dX0_lacks_60 (Nat.le_refl _) (Nat.le_refl _) ⟨by rw [show refI (F 59) (F 60) t lane i (nI (H + 1)) = -13 from by unfold refI; rw [if_pos (show 0 ≤ F 59 t by rw [q3]; exact nI_nn (by omega)), if_pos (q3.trans c_25), if_neg c_32, q4, if_neg (fun q => c_51 ((lk_le q2 hH c_32).mpr q))]], rfl, rfl⟩
    · refine ew_bipush (t := 30) (v := (-12)) dX0_lacks_28 (by decide) rfl ?_
      exact ew_iret rfl dX0_lacks_30 (Nat.le_refl _) (Nat.le_refl _) ⟨by rw [show refI (F 59) (F 60) t lane i (nI (H + 1)) = -12 from by unfold refI; rw [if_pos (show 0 ≤ F 59 t by rw [q3]; exact nI_nn (by omega)), if_neg (fun q => c_25 (q3.symm.trans q))]], rfl, rfl⟩
