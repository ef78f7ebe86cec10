-- Obj fields dict_keys(['cls', 'fun', 'sname', 'refs', 'extra', 'ups'])
/-! the component: a sheet's set, drop -/
set_option maxRecDepth 100000
theorem nar_b (v : Int32) : vp_nar .byte v.toInt8.toInt32 = v.toInt8.toInt32 := by
  show (v.toInt8.toInt32).toInt8.toInt32 = _
  rw [Int8.toInt8_toInt32]
theorem nar_h (v : Int32) : vp_nar .short v.toInt16.toInt32 = v.toInt16.toInt32 := by
  show (v.toInt16.toInt32).toInt16.toInt32 = _
  rw [Int16.toInt16_toInt32]
set_option maxHeartbeats 600000 in
theorem ax_setS0 {l : Launch} {G : GW} {h : AH} {n : Nat} {q r z : Nat} {f : Nat → Int32} (xq : h q = some (OB 3 [.ref r])) (xr_ : h r = some (BA z f)) {j : Nat} {v : Int32} (hj : j < z) (hz : z ≤ 16) : AM l G yX3_set cX3_set 6 none 0 0 0 [.ref q, .int (nI j), .int v] h n (Qv (hov h [(r, BA z (upd f j (v.toInt8.toInt32)))]) n) := by
  refine AM.of (L := [some (.ref q), some (.int (nI j)), some (.int v), none, none, none]) (by decide) (Nat.le_of_ble_eq_true rfl) rfl ?_
  refine ew_aload_n (t := 1) dX3_set_0 rfl rfl rfl ?_
  refine ew_get (t := 4) (j := 0) (v := .ref r) fcX3 xq (Nat.le_of_ble_eq_true rfl) q247 rfl dX3_set_1 rfl ?_
  refine ew_astore (t := 6) (L' := [some (.ref q), some (.int (nI j)), some (.int v), none, none, some (.ref r)]) dX3_set_4 (Nat.le_of_ble_eq_true rfl) rfl rfl ?_
  refine ew_aload (t := 8) dX3_set_6 rfl rfl ?_
  refine ew_instY (t := 11) (ty := .byte) xr_ rfl baN q816 dX3_set_8 rfl ?_
  refine ew_if_eq (t := 28) (t2 := 14) dX3_set_11 rfl rfl (fun c_11 => ?_) (fun c_11 => ?_)
  · exact absurd c_11 (by decide)
  · refine ew_aload (t := 16) dX3_set_14 rfl rfl ?_
    refine ew_castA (t := 19) (ty := .byte) xr_ rfl baN q816 dX3_set_16 rfl ?_
    refine ew_astore_n (t := 20) (L' := [some (.ref q), some (.int (nI j)), some (.int v), some (.ref r), none, some (.ref r)]) dX3_set_19 rfl (Nat.le_of_ble_eq_true rfl) rfl rfl ?_
    refine ew_aload_n (t := 21) dX3_set_20 rfl rfl rfl ?_
    refine ew_iload_n (t := 22) dX3_set_21 rfl rfl rfl ?_
    refine ew_iload_n (t := 23) dX3_set_22 rfl rfl rfl ?_
    refine ew_i2b (t := 24) dX3_set_23 rfl ?_
    refine ew_bast (t := 25) (j := j) (N := z) (h' := (hov h [(r, BA z (upd f j (vp_nar .byte v.toInt8.toInt32)))])) xr_ (vp_in_nI hj (by omega)) (nI_clamp (by omega)) dX3_set_24 hov_up0 rfl ?_
    refine ew_goto (t := 68) dX3_set_25 rfl ?_
    exact ew_vret rfl dX3_set_68 (Nat.le_refl _) (Nat.le_refl _) ⟨rfl, by rw [nar_b], rfl⟩
set_option maxHeartbeats 600000 in
theorem ax_setS1 {l : Launch} {G : GW} {h : AH} {n : Nat} {q r z : Nat} {f : Nat → Int32} (xq : h q = some (OB 3 [.ref r])) (xr_ : h r = some (SA z f)) {j : Nat} {v : Int32} (hj : j < z) (hz : z ≤ 16) : AM l G yX3_set cX3_set 6 none 0 0 0 [.ref q, .int (nI j), .int v] h n (Qv (hov h [(r, SA z (upd f j (v.toInt16.toInt32)))]) n) := by
  refine AM.of (L := [some (.ref q), some (.int (nI j)), some (.int v), none, none, none]) (by decide) (Nat.le_of_ble_eq_true rfl) rfl ?_
  refine ew_aload_n (t := 1) dX3_set_0 rfl rfl rfl ?_
  refine ew_get (t := 4) (j := 0) (v := .ref r) fcX3 xq (Nat.le_of_ble_eq_true rfl) q247 rfl dX3_set_1 rfl ?_
  refine ew_astore (t := 6) (L' := [some (.ref q), some (.int (nI j)), some (.int v), none, none, some (.ref r)]) dX3_set_4 (Nat.le_of_ble_eq_true rfl) rfl rfl ?_
  refine ew_aload (t := 8) dX3_set_6 rfl rfl ?_
  refine ew_instNo (t := 11) (ty := .short) (nm := "[S") xr_ rfl saN (by decide +kernel) q816 dX3_set_8 rfl ?_
  refine ew_if_eq (t := 28) (t2 := 14) dX3_set_11 rfl rfl (fun c_11 => ?_) (fun c_11 => ?_)
  · refine ew_aload_n (t := 29) dX3_set_28 rfl rfl rfl ?_
    refine ew_get (t := 32) (j := 0) (v := .ref r) fcX3 xq (Nat.le_of_ble_eq_true rfl) q247 rfl dX3_set_29 rfl ?_
    refine ew_astore (t := 34) (L' := [some (.ref q), some (.int (nI j)), some (.int v), none, none, some (.ref r)]) dX3_set_32 (Nat.le_of_ble_eq_true rfl) rfl rfl ?_
    refine ew_aload (t := 36) dX3_set_34 rfl rfl ?_
    refine ew_instY (t := 39) (ty := .short) xr_ rfl saN q817 dX3_set_36 rfl ?_
    refine ew_if_eq (t := 58) (t2 := 42) dX3_set_39 rfl rfl (fun c_39 => ?_) (fun c_39 => ?_)
    · exact absurd c_39 (by decide)
    · refine ew_aload (t := 44) dX3_set_42 rfl rfl ?_
      refine ew_castA (t := 47) (ty := .short) xr_ rfl saN q817 dX3_set_44 rfl ?_
      refine ew_astore (t := 49) (L' := [some (.ref q), some (.int (nI j)), some (.int v), none, some (.ref r), some (.ref r)]) dX3_set_47 (Nat.le_of_ble_eq_true rfl) rfl rfl ?_
      refine ew_aload (t := 51) dX3_set_49 rfl rfl ?_
      refine ew_iload_n (t := 52) dX3_set_51 rfl rfl rfl ?_
      refine ew_iload_n (t := 53) dX3_set_52 rfl rfl rfl ?_
      refine ew_i2s (t := 54) dX3_set_53 rfl ?_
      refine ew_sast (t := 55) (j := j) (N := z) (h' := (hov h [(r, SA z (upd f j (vp_nar .short v.toInt16.toInt32)))])) xr_ (vp_in_nI hj (by omega)) (nI_clamp (by omega)) dX3_set_54 hov_up0 rfl ?_
      refine ew_goto (t := 68) dX3_set_55 rfl ?_
      exact ew_vret rfl dX3_set_68 (Nat.le_refl _) (Nat.le_refl _) ⟨rfl, by rw [nar_h], rfl⟩
  · exact absurd c_11 (by decide)
set_option maxHeartbeats 600000 in
theorem ax_setS2 {l : Launch} {G : GW} {h : AH} {n : Nat} {q r z : Nat} {f : Nat → Int32} (xq : h q = some (OB 3 [.ref r])) (xr_ : h r = some (IA z f)) {j : Nat} {v : Int32} (hj : j < z) (hz : z ≤ 16) : AM l G yX3_set cX3_set 6 none 0 0 0 [.ref q, .int (nI j), .int v] h n (Qv (hov h [(r, IA z (upd f j (v)))]) n) := by
  refine AM.of (L := [some (.ref q), some (.int (nI j)), some (.int v), none, none, none]) (by decide) (Nat.le_of_ble_eq_true rfl) rfl ?_
  refine ew_aload_n (t := 1) dX3_set_0 rfl rfl rfl ?_
  refine ew_get (t := 4) (j := 0) (v := .ref r) fcX3 xq (Nat.le_of_ble_eq_true rfl) q247 rfl dX3_set_1 rfl ?_
  refine ew_astore (t := 6) (L' := [some (.ref q), some (.int (nI j)), some (.int v), none, none, some (.ref r)]) dX3_set_4 (Nat.le_of_ble_eq_true rfl) rfl rfl ?_
  refine ew_aload (t := 8) dX3_set_6 rfl rfl ?_
  refine ew_instNo (t := 11) (ty := .int) (nm := "[I") xr_ rfl iaN (by decide +kernel) q816 dX3_set_8 rfl ?_
  refine ew_if_eq (t := 28) (t2 := 14) dX3_set_11 rfl rfl (fun c_11 => ?_) (fun c_11 => ?_)
  · refine ew_aload_n (t := 29) dX3_set_28 rfl rfl rfl ?_
    refine ew_get (t := 32) (j := 0) (v := .ref r) fcX3 xq (Nat.le_of_ble_eq_true rfl) q247 rfl dX3_set_29 rfl ?_
    refine ew_astore (t := 34) (L' := [some (.ref q), some (.int (nI j)), some (.int v), none, none, some (.ref r)]) dX3_set_32 (Nat.le_of_ble_eq_true rfl) rfl rfl ?_
    refine ew_aload (t := 36) dX3_set_34 rfl rfl ?_
    refine ew_instNo (t := 39) (ty := .int) (nm := "[I") xr_ rfl iaN (by decide +kernel) q817 dX3_set_36 rfl ?_
    refine ew_if_eq (t := 58) (t2 := 42) dX3_set_39 rfl rfl (fun c_39 => ?_) (fun c_39 => ?_)
    · refine ew_aload_n (t := 59) dX3_set_58 rfl rfl rfl ?_
      refine ew_get (t := 62) (j := 0) (v := .ref r) fcX3 xq (Nat.le_of_ble_eq_true rfl) q247 rfl dX3_set_59 rfl ?_
      refine ew_castA (t := 65) (ty := .int) xr_ rfl iaN q822 dX3_set_62 rfl ?_
      refine ew_iload_n (t := 66) dX3_set_65 rfl rfl rfl ?_
      refine ew_iload_n (t := 67) dX3_set_66 rfl rfl rfl ?_
      refine ew_iast (t := 68) (j := j) (N := z) (h' := (hov h [(r, IA z (upd f j v))])) xr_ (vp_in_nI hj (by omega)) (nI_clamp (by omega)) dX3_set_67 hov_up0 rfl ?_
      exact ew_vret rfl dX3_set_68 (Nat.le_refl _) (Nat.le_refl _) ⟨rfl, rfl, rfl⟩
    · exact absurd c_39 (by decide)
  · exact absurd c_11 (by decide)
