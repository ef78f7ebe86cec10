-- Obj fields dict_keys(['cls', 'fun', 'sname', 'refs', 'extra', 'ups'])
/-! the component: sheets -/
set_option maxRecDepth 100000
theorem baN {s : State} {cA : ClassId} (h : va_RA s cA .byte) : s.vm.findClass "[B" = some cA := by
  have e : "[" ++ FieldType.byte.toString = "[B" := by decide +kernel
  rw [← e]; exact h
theorem saN {s : State} {cA : ClassId} (h : va_RA s cA .short) : s.vm.findClass "[S" = some cA := by
  have e : "[" ++ FieldType.short.toString = "[S" := by decide +kernel
  rw [← e]; exact h
theorem iaN {s : State} {cA : ClassId} (h : va_RA s cA .int) : s.vm.findClass "[I" = some cA := by
  have e : "[" ++ FieldType.int.toString = "[I" := by decide +kernel
  rw [← e]; exact h
set_option maxHeartbeats 600000 in
theorem ax_lane0 {l : Launch} {G : GW} {h : AH} {n : Nat} {q r z : Nat} {f : Nat → Int32} (xq : h q = some (OB 3 [.ref r])) (xr_ : h r = some (BA z f)) : AM l G yX3_lane cX3_lane 1 (some .int) 0 0 0 [.ref q] h n (Qi 0 h n) := by
  refine AM.of (L := [some (.ref q)]) (by decide) (Nat.le_of_ble_eq_true rfl) rfl ?_
  refine ew_aload_n (t := 1) dX3_lane_0 rfl rfl rfl ?_
  refine ew_get (t := 4) (j := 0) (v := .ref r) fcX3 xq (Nat.le_of_ble_eq_true rfl) q247 rfl dX3_lane_1 rfl ?_
  refine ew_instY (t := 7) (ty := .byte) xr_ rfl baN q816 dX3_lane_4 rfl ?_
  refine ew_if_eq (t := 14) (t2 := 10) dX3_lane_7 rfl rfl (fun c_7 => ?_) (fun c_7 => ?_)
  · exact absurd c_7 (by decide)
  · refine ew_ic0 (t := 11) dX3_lane_10 rfl ?_
    refine ew_goto (t := 29) dX3_lane_11 rfl ?_
    exact ew_iret rfl dX3_lane_29 (Nat.le_refl _) (Nat.le_refl _) ⟨rfl, rfl, rfl⟩
set_option maxHeartbeats 600000 in
theorem ax_size0 {l : Launch} {G : GW} {h : AH} {n : Nat} {q r z : Nat} {f : Nat → Int32} (xq : h q = some (OB 3 [.ref r])) (xr_ : h r = some (BA z f)) : AM l G yX3_size cX3_size 3 (some .int) 0 0 0 [.ref q] h n (Qi (nI z) h n) := by
  refine AM.of (L := [some (.ref q), none, none]) (by decide) (Nat.le_of_ble_eq_true rfl) rfl ?_
  refine ew_aload_n (t := 1) dX3_size_0 rfl rfl rfl ?_
  refine ew_get (t := 4) (j := 0) (v := .ref r) fcX3 xq (Nat.le_of_ble_eq_true rfl) q247 rfl dX3_size_1 rfl ?_
  refine ew_astore_n (t := 5) (L' := [some (.ref q), none, some (.ref r)]) dX3_size_4 rfl (Nat.le_of_ble_eq_true rfl) rfl rfl ?_
  refine ew_aload_n (t := 6) dX3_size_5 rfl rfl rfl ?_
  refine ew_instY (t := 9) (ty := .byte) xr_ rfl baN q816 dX3_size_6 rfl ?_
  refine ew_if_eq (t := 20) (t2 := 12) dX3_size_9 rfl rfl (fun c_9 => ?_) (fun c_9 => ?_)
  · exact absurd c_9 (by decide)
  · refine ew_aload_n (t := 13) dX3_size_12 rfl rfl rfl ?_
    refine ew_castA (t := 16) (ty := .byte) xr_ rfl baN q816 dX3_size_13 rfl ?_
    refine ew_astore_n (t := 17) (L' := [some (.ref q), some (.ref r), some (.ref r)]) dX3_size_16 rfl (Nat.le_of_ble_eq_true rfl) rfl rfl ?_
    refine ew_aload_n (t := 18) dX3_size_17 rfl rfl rfl ?_
    refine ew_alen (t := 19) (v := (nI z)) xr_ (Nat.le_of_ble_eq_true rfl) rfl dX3_size_18 rfl ?_
    exact ew_iret rfl dX3_size_19 (Nat.le_refl _) (Nat.le_refl _) ⟨rfl, rfl, rfl⟩
set_option maxHeartbeats 600000 in
theorem ax_get0 {l : Launch} {G : GW} {h : AH} {n : Nat} {q r z : Nat} {f : Nat → Int32} (xq : h q = some (OB 3 [.ref r])) (xr_ : h r = some (BA z f)) {j : Nat} (hj : j < z) (hz : z ≤ 16) : AM l G yX3_get cX3_get 4 (some .int) 0 0 0 [.ref q, .int (nI j)] h n (Qi (f j) h n) := by
  refine AM.of (L := [some (.ref q), some (.int (nI j)), none, none]) (by decide) (Nat.le_of_ble_eq_true rfl) rfl ?_
  refine ew_aload_n (t := 1) dX3_get_0 rfl rfl rfl ?_
  refine ew_get (t := 4) (j := 0) (v := .ref r) fcX3 xq (Nat.le_of_ble_eq_true rfl) q247 rfl dX3_get_1 rfl ?_
  refine ew_astore_n (t := 5) (L' := [some (.ref q), some (.int (nI j)), none, some (.ref r)]) dX3_get_4 rfl (Nat.le_of_ble_eq_true rfl) rfl rfl ?_
  refine ew_aload_n (t := 6) dX3_get_5 rfl rfl rfl ?_
  refine ew_instY (t := 9) (ty := .byte) xr_ rfl baN q816 dX3_get_6 rfl ?_
  refine ew_if_eq (t := 21) (t2 := 12) dX3_get_9 rfl rfl (fun c_9 => ?_) (fun c_9 => ?_)
  · exact absurd c_9 (by decide)
  · refine ew_aload_n (t := 13) dX3_get_12 rfl rfl rfl ?_
    refine ew_castA (t := 16) (ty := .byte) xr_ rfl baN q816 dX3_get_13 rfl ?_
    refine ew_astore_n (t := 17) (L' := [some (.ref q), some (.int (nI j)), some (.ref r), some (.ref r)]) dX3_get_16 rfl (Nat.le_of_ble_eq_true rfl) rfl rfl ?_
    refine ew_aload_n (t := 18) dX3_get_17 rfl rfl rfl ?_
    refine ew_iload_n (t := 19) dX3_get_18 rfl rfl rfl ?_
    refine ew_bald (t := 20) (j := j) (N := z) xr_ (vp_in_nI hj (by omega)) (nI_clamp (by omega)) dX3_get_19 rfl ?_
    exact ew_iret rfl dX3_get_20 (Nat.le_refl _) (Nat.le_refl _) ⟨rfl, rfl, rfl⟩
set_option maxHeartbeats 600000 in
theorem ax_lane1 {l : Launch} {G : GW} {h : AH} {n : Nat} {q r z : Nat} {f : Nat → Int32} (xq : h q = some (OB 3 [.ref r])) (xr_ : h r = some (SA z f)) : AM l G yX3_lane cX3_lane 1 (some .int) 0 0 0 [.ref q] h n (Qi 1 h n) := by
  refine AM.of (L := [some (.ref q)]) (by decide) (Nat.le_of_ble_eq_true rfl) rfl ?_
  refine ew_aload_n (t := 1) dX3_lane_0 rfl rfl rfl ?_
  refine ew_get (t := 4) (j := 0) (v := .ref r) fcX3 xq (Nat.le_of_ble_eq_true rfl) q247 rfl dX3_lane_1 rfl ?_
  refine ew_instNo (t := 7) (ty := .short) (nm := "[S") xr_ rfl saN (by decide +kernel) q816 dX3_lane_4 rfl ?_
  refine ew_if_eq (t := 14) (t2 := 10) dX3_lane_7 rfl rfl (fun c_7 => ?_) (fun c_7 => ?_)
  · refine ew_aload_n (t := 15) dX3_lane_14 rfl rfl rfl ?_
    refine ew_get (t := 18) (j := 0) (v := .ref r) fcX3 xq (Nat.le_of_ble_eq_true rfl) q247 rfl dX3_lane_15 rfl ?_
    refine ew_instY (t := 21) (ty := .short) xr_ rfl saN q817 dX3_lane_18 rfl ?_
    refine ew_if_eq (t := 28) (t2 := 24) dX3_lane_21 rfl rfl (fun c_21 => ?_) (fun c_21 => ?_)
    · exact absurd c_21 (by decide)
    · refine ew_ic1 (t := 25) dX3_lane_24 rfl ?_
      refine ew_goto (t := 29) dX3_lane_25 rfl ?_
      exact ew_iret rfl dX3_lane_29 (Nat.le_refl _) (Nat.le_refl _) ⟨rfl, rfl, rfl⟩
  · exact absurd c_7 (by decide)
set_option maxHeartbeats 600000 in
theorem ax_size1 {l : Launch} {G : GW} {h : AH} {n : Nat} {q r z : Nat} {f : Nat → Int32} (xq : h q = some (OB 3 [.ref r])) (xr_ : h r = some (SA z f)) : AM l G yX3_size cX3_size 3 (some .int) 0 0 0 [.ref q] h n (Qi (nI z) h n) := by
  refine AM.of (L := [some (.ref q), none, none]) (by decide) (Nat.le_of_ble_eq_true rfl) rfl ?_
  refine ew_aload_n (t := 1) dX3_size_0 rfl rfl rfl ?_
  refine ew_get (t := 4) (j := 0) (v := .ref r) fcX3 xq (Nat.le_of_ble_eq_true rfl) q247 rfl dX3_size_1 rfl ?_
  refine ew_astore_n (t := 5) (L' := [some (.ref q), none, some (.ref r)]) dX3_size_4 rfl (Nat.le_of_ble_eq_true rfl) rfl rfl ?_
  refine ew_aload_n (t := 6) dX3_size_5 rfl rfl rfl ?_
  refine ew_instNo (t := 9) (ty := .short) (nm := "[S") xr_ rfl saN (by decide +kernel) q816 dX3_size_6 rfl ?_
  refine ew_if_eq (t := 20) (t2 := 12) dX3_size_9 rfl rfl (fun c_9 => ?_) (fun c_9 => ?_)
  · refine ew_aload_n (t := 21) dX3_size_20 rfl rfl rfl ?_
    refine ew_get (t := 24) (j := 0) (v := .ref r) fcX3 xq (Nat.le_of_ble_eq_true rfl) q247 rfl dX3_size_21 rfl ?_
    refine ew_astore_n (t := 25) (L' := [some (.ref q), none, some (.ref r)]) dX3_size_24 rfl (Nat.le_of_ble_eq_true rfl) rfl rfl ?_
    refine ew_aload_n (t := 26) dX3_size_25 rfl rfl rfl ?_
    refine ew_instY (t := 29) (ty := .short) xr_ rfl saN q817 dX3_size_26 rfl ?_
    refine ew_if_eq (t := 42) (t2 := 32) dX3_size_29 rfl rfl (fun c_29 => ?_) (fun c_29 => ?_)
    · exact absurd c_29 (by decide)
    · refine ew_aload_n (t := 33) dX3_size_32 rfl rfl rfl ?_
      refine ew_castA (t := 36) (ty := .short) xr_ rfl saN q817 dX3_size_33 rfl ?_
      refine ew_astore_n (t := 37) (L' := [some (.ref q), some (.ref r), some (.ref r)]) dX3_size_36 rfl (Nat.le_of_ble_eq_true rfl) rfl rfl ?_
      refine ew_aload_n (t := 38) dX3_size_37 rfl rfl rfl ?_
      refine ew_alen (t := 39) (v := (nI z)) xr_ (Nat.le_of_ble_eq_true rfl) rfl dX3_size_38 rfl ?_
      refine ew_goto (t := 50) dX3_size_39 rfl ?_
      exact ew_iret rfl dX3_size_50 (Nat.le_refl _) (Nat.le_refl _) ⟨rfl, rfl, rfl⟩
  · exact absurd c_9 (by decide)
set_option maxHeartbeats 600000 in
theorem ax_get1 {l : Launch} {G : GW} {h : AH} {n : Nat} {q r z : Nat} {f : Nat → Int32} (xq : h q = some (OB 3 [.ref r])) (xr_ : h r = some (SA z f)) {j : Nat} (hj : j < z) (hz : z ≤ 16) : AM l G yX3_get cX3_get 4 (some .int) 0 0 0 [.ref q, .int (nI j)] h n (Qi (f j) h n) := by
  refine AM.of (L := [some (.ref q), some (.int (nI j)), none, none]) (by decide) (Nat.le_of_ble_eq_true rfl) rfl ?_
  refine ew_aload_n (t := 1) dX3_get_0 rfl rfl rfl ?_
  refine ew_get (t := 4) (j := 0) (v := .ref r) fcX3 xq (Nat.le_of_ble_eq_true rfl) q247 rfl dX3_get_1 rfl ?_
  refine ew_astore_n (t := 5) (L' := [some (.ref q), some (.int (nI j)), none, some (.ref r)]) dX3_get_4 rfl (Nat.le_of_ble_eq_true rfl) rfl rfl ?_
  refine ew_aload_n (t := 6) dX3_get_5 rfl rfl rfl ?_
  refine ew_instNo (t := 9) (ty := .short) (nm := "[S") xr_ rfl saN (by decide +kernel) q816 dX3_get_6 rfl ?_
  refine ew_if_eq (t := 21) (t2 := 12) dX3_get_9 rfl rfl (fun c_9 => ?_) (fun c_9 => ?_)
  · refine ew_aload_n (t := 22) dX3_get_21 rfl rfl rfl ?_
    refine ew_get (t := 25) (j := 0) (v := .ref r) fcX3 xq (Nat.le_of_ble_eq_true rfl) q247 rfl dX3_get_22 rfl ?_
    refine ew_astore_n (t := 26) (L' := [some (.ref q), some (.int (nI j)), none, some (.ref r)]) dX3_get_25 rfl (Nat.le_of_ble_eq_true rfl) rfl rfl ?_
    refine ew_aload_n (t := 27) dX3_get_26 rfl rfl rfl ?_
    refine ew_instY (t := 30) (ty := .short) xr_ rfl saN q817 dX3_get_27 rfl ?_
    refine ew_if_eq (t := 44) (t2 := 33) dX3_get_30 rfl rfl (fun c_30 => ?_) (fun c_30 => ?_)
    · exact absurd c_30 (by decide)
    · refine ew_aload_n (t := 34) dX3_get_33 rfl rfl rfl ?_
      refine ew_castA (t := 37) (ty := .short) xr_ rfl saN q817 dX3_get_34 rfl ?_
      refine ew_astore_n (t := 38) (L' := [some (.ref q), some (.int (nI j)), some (.ref r), some (.ref r)]) dX3_get_37 rfl (Nat.le_of_ble_eq_true rfl) rfl rfl ?_
      refine ew_aload_n (t := 39) dX3_get_38 rfl rfl rfl ?_
      refine ew_iload_n (t := 40) dX3_get_39 rfl rfl rfl ?_
      refine ew_sald (t := 41) (j := j) (N := z) xr_ (vp_in_nI hj (by omega)) (nI_clamp (by omega)) dX3_get_40 rfl ?_
      refine ew_goto (t := 53) dX3_get_41 rfl ?_
      exact ew_iret rfl dX3_get_53 (Nat.le_refl _) (Nat.le_refl _) ⟨rfl, rfl, rfl⟩
  · exact absurd c_9 (by decide)
set_option maxHeartbeats 600000 in
theorem ax_lane2 {l : Launch} {G : GW} {h : AH} {n : Nat} {q r z : Nat} {f : Nat → Int32} (xq : h q = some (OB 3 [.ref r])) (xr_ : h r = some (IA z f)) : AM l G yX3_lane cX3_lane 1 (some .int) 0 0 0 [.ref q] h n (Qi 2 h n) := by
  refine AM.of (L := [some (.ref q)]) (by decide) (Nat.le_of_ble_eq_true rfl) rfl ?_
  refine ew_aload_n (t := 1) dX3_lane_0 rfl rfl rfl ?_
  refine ew_get (t := 4) (j := 0) (v := .ref r) fcX3 xq (Nat.le_of_ble_eq_true rfl) q247 rfl dX3_lane_1 rfl ?_
  refine ew_instNo (t := 7) (ty := .int) (nm := "[I") xr_ rfl iaN (by decide +kernel) q816 dX3_lane_4 rfl ?_
  refine ew_if_eq (t := 14) (t2 := 10) dX3_lane_7 rfl rfl (fun c_7 => ?_) (fun c_7 => ?_)
  · refine ew_aload_n (t := 15) dX3_lane_14 rfl rfl rfl ?_
    refine ew_get (t := 18) (j := 0) (v := .ref r) fcX3 xq (Nat.le_of_ble_eq_true rfl) q247 rfl dX3_lane_15 rfl ?_
    refine ew_instNo (t := 21) (ty := .int) (nm := "[I") xr_ rfl iaN (by decide +kernel) q817 dX3_lane_18 rfl ?_
    refine ew_if_eq (t := 28) (t2 := 24) dX3_lane_21 rfl rfl (fun c_21 => ?_) (fun c_21 => ?_)
    · refine ew_ic2 (t := 29) dX3_lane_28 rfl ?_
      exact ew_iret rfl dX3_lane_29 (Nat.le_refl _) (Nat.le_refl _) ⟨rfl, rfl, rfl⟩
    · exact absurd c_21 (by decide)
  · exact absurd c_7 (by decide)
set_option maxHeartbeats 600000 in
theorem ax_size2 {l : Launch} {G : GW} {h : AH} {n : Nat} {q r z : Nat} {f : Nat → Int32} (xq : h q = some (OB 3 [.ref r])) (xr_ : h r = some (IA z f)) : AM l G yX3_size cX3_size 3 (some .int) 0 0 0 [.ref q] h n (Qi (nI z) h n) := by
  refine AM.of (L := [some (.ref q), none, none]) (by decide) (Nat.le_of_ble_eq_true rfl) rfl ?_
  refine ew_aload_n (t := 1) dX3_size_0 rfl rfl rfl ?_
  refine ew_get (t := 4) (j := 0) (v := .ref r) fcX3 xq (Nat.le_of_ble_eq_true rfl) q247 rfl dX3_size_1 rfl ?_
  refine ew_astore_n (t := 5) (L' := [some (.ref q), none, some (.ref r)]) dX3_size_4 rfl (Nat.le_of_ble_eq_true rfl) rfl rfl ?_
  refine ew_aload_n (t := 6) dX3_size_5 rfl rfl rfl ?_
  refine ew_instNo (t := 9) (ty := .int) (nm := "[I") xr_ rfl iaN (by decide +kernel) q816 dX3_size_6 rfl ?_
  refine ew_if_eq (t := 20) (t2 := 12) dX3_size_9 rfl rfl (fun c_9 => ?_) (fun c_9 => ?_)
  · refine ew_aload_n (t := 21) dX3_size_20 rfl rfl rfl ?_
    refine ew_get (t := 24) (j := 0) (v := .ref r) fcX3 xq (Nat.le_of_ble_eq_true rfl) q247 rfl dX3_size_21 rfl ?_
    refine ew_astore_n (t := 25) (L' := [some (.ref q), none, some (.ref r)]) dX3_size_24 rfl (Nat.le_of_ble_eq_true rfl) rfl rfl ?_
    refine ew_aload_n (t := 26) dX3_size_25 rfl rfl rfl ?_
    refine ew_instNo (t := 29) (ty := .int) (nm := "[I") xr_ rfl iaN (by decide +kernel) q817 dX3_size_26 rfl ?_
    refine ew_if_eq (t := 42) (t2 := 32) dX3_size_29 rfl rfl (fun c_29 => ?_) (fun c_29 => ?_)
    · refine ew_aload_n (t := 43) dX3_size_42 rfl rfl rfl ?_
      refine ew_get (t := 46) (j := 0) (v := .ref r) fcX3 xq (Nat.le_of_ble_eq_true rfl) q247 rfl dX3_size_43 rfl ?_
      refine ew_castA (t := 49) (ty := .int) xr_ rfl iaN q822 dX3_size_46 rfl ?_
      refine ew_alen (t := 50) (v := (nI z)) xr_ (Nat.le_of_ble_eq_true rfl) rfl dX3_size_49 rfl ?_
      exact ew_iret rfl dX3_size_50 (Nat.le_refl _) (Nat.le_refl _) ⟨rfl, rfl, rfl⟩
    · exact absurd c_29 (by decide)
  · exact absurd c_9 (by decide)
set_option maxHeartbeats 600000 in
theorem ax_get2 {l : Launch} {G : GW} {h : AH} {n : Nat} {q r z : Nat} {f : Nat → Int32} (xq : h q = some (OB 3 [.ref r])) (xr_ : h r = some (IA z f)) {j : Nat} (hj : j < z) (hz : z ≤ 16) : AM l G yX3_get cX3_get 4 (some .int) 0 0 0 [.ref q, .int (nI j)] h n (Qi (f j) h n) := by
  refine AM.of (L := [some (.ref q), some (.int (nI j)), none, none]) (by decide) (Nat.le_of_ble_eq_true rfl) rfl ?_
  refine ew_aload_n (t := 1) dX3_get_0 rfl rfl rfl ?_
  refine ew_get (t := 4) (j := 0) (v := .ref r) fcX3 xq (Nat.le_of_ble_eq_true rfl) q247 rfl dX3_get_1 rfl ?_
  refine ew_astore_n (t := 5) (L' := [some (.ref q), some (.int (nI j)), none, some (.ref r)]) dX3_get_4 rfl (Nat.le_of_ble_eq_true rfl) rfl rfl ?_
  refine ew_aload_n (t := 6) dX3_get_5 rfl rfl rfl ?_
  refine ew_instNo (t := 9) (ty := .int) (nm := "[I") xr_ rfl iaN (by decide +kernel) q816 dX3_get_6 rfl ?_
  refine ew_if_eq (t := 21) (t2 := 12) dX3_get_9 rfl rfl (fun c_9 => ?_) (fun c_9 => ?_)
  · refine ew_aload_n (t := 22) dX3_get_21 rfl rfl rfl ?_
    refine ew_get (t := 25) (j := 0) (v := .ref r) fcX3 xq (Nat.le_of_ble_eq_true rfl) q247 rfl dX3_get_22 rfl ?_
    refine ew_astore_n (t := 26) (L' := [some (.ref q), some (.int (nI j)), none, some (.ref r)]) dX3_get_25 rfl (Nat.le_of_ble_eq_true rfl) rfl rfl ?_
    refine ew_aload_n (t := 27) dX3_get_26 rfl rfl rfl ?_
    refine ew_instNo (t := 30) (ty := .int) (nm := "[I") xr_ rfl iaN (by decide +kernel) q817 dX3_get_27 rfl ?_
    refine ew_if_eq (t := 44) (t2 := 33) dX3_get_30 rfl rfl (fun c_30 => ?_) (fun c_30 => ?_)
    · refine ew_aload_n (t := 45) dX3_get_44 rfl rfl rfl ?_
      refine ew_get (t := 48) (j := 0) (v := .ref r) fcX3 xq (Nat.le_of_ble_eq_true rfl) q247 rfl dX3_get_45 rfl ?_
      refine ew_castA (t := 51) (ty := .int) xr_ rfl iaN q822 dX3_get_48 rfl ?_
      refine ew_iload_n (t := 52) dX3_get_51 rfl rfl rfl ?_
      refine ew_iald (t := 53) (j := j) (N := z) xr_ (vp_in_nI hj (by omega)) (nI_clamp (by omega)) dX3_get_52 rfl ?_
      exact ew_iret rfl dX3_get_53 (Nat.le_refl _) (Nat.le_refl _) ⟨rfl, rfl, rfl⟩
    · exact absurd c_30 (by decide)
  · exact absurd c_9 (by decide)
