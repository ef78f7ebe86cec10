/-! the reference: its small static methods -/
set_option maxRecDepth 100000
set_option maxHeartbeats 4000000 in
theorem am_in {l : Launch} {G : GW} {h : AH} {n : Nat} (v a b : Int64) : AM l G yX4_in cX4_in 6 (some .boolean) 0 0 0 [.long v, .long a, .long b] h n (Qi (b2i (inL v a b)) h n) := by
  refine AM.of (L := [some (.long v), none, some (.long a), none, some (.long b), none]) (by decide) (Nat.le_of_ble_eq_true rfl) rfl ?_
  refine ew_lload_n (t := 1) dX4_in_0 rfl rfl rfl ?_
  refine ew_lload_n (t := 2) dX4_in_1 rfl rfl rfl ?_
  refine ew_lcmp_lt (t1 := 3) (t := 17) (t2 := 6) dX4_in_2 rfl dX4_in_3 rfl rfl (fun c_2 => ?_) (fun c_2 => ?_)
  · refine ew_ic0 (t := 18) dX4_in_17 rfl ?_
    exact ew_zret rfl (by decide) dX4_in_18 (Nat.le_refl _) (Nat.le_refl _) ⟨by simp [inL, b2i, c_2], rfl, rfl⟩
  · refine ew_lload_n (t := 7) dX4_in_6 rfl rfl rfl ?_
    refine ew_lload (t := 9) dX4_in_7 rfl rfl ?_
    refine ew_lcmp_gt (t1 := 10) (t := 17) (t2 := 13) dX4_in_9 rfl dX4_in_10 rfl rfl (fun c_9 => ?_) (fun c_9 => ?_)
    · refine ew_ic0 (t := 18) dX4_in_17 rfl ?_
      exact ew_zret rfl (by decide) dX4_in_18 (Nat.le_refl _) (Nat.le_refl _) ⟨by simp [inL, b2i, c_2, c_9], rfl, rfl⟩
    · refine ew_ic1 (t := 14) dX4_in_13 rfl ?_
      refine ew_goto (t := 18) dX4_in_14 rfl ?_
      exact ew_zret rfl (by decide) dX4_in_18 (Nat.le_refl _) (Nat.le_refl _) ⟨by simp [inL, b2i, c_2, c_9], rfl, rfl⟩
set_option maxHeartbeats 4000000 in
theorem am_isCell {l : Launch} {G : GW} {h : AH} {n : Nat} (c : Int32) : AM l G yX4_isCell cX4_isCell 1 (some .boolean) 1 0 0 [.int c] h n (Qi (b2i (inI c 0 99)) h n) := by
  refine AM.of (L := [some (.int c)]) (by decide) (Nat.le_of_ble_eq_true rfl) rfl ?_
  refine ew_iload_n (t := 1) dX4_isCell_0 rfl rfl rfl ?_
  refine ew_i2l (t := 2) dX4_isCell_1 rfl ?_
  refine ew_lc0 (t := 3) dX4_isCell_2 rfl ?_
  refine ew_ldc2 (t := 6) (v := 99) dX4_isCell_3 q1163 rfl ?_
  refine ew_callS (t := 9) (As := [_, _, _]) (am_in _ _ _) (lw_S q1153 q1154 q60 q1155) naX4_in dX4_isCell_6 rfl (Nat.le_of_ble_eq_true rfl) (Nat.le_of_ble_eq_true rfl) (Nat.le_refl _) (Nat.le_refl _) (Nat.le_of_ble_eq_true rfl) rfl (qi ?_)
  exact ew_zret rfl (b2i_nar _) dX4_isCell_9 (Nat.le_refl _) (Nat.le_refl _) ⟨by rw [show inL c.toInt64 0 99 = inI c 0 99 from inL_I c 0 99], rfl, rfl⟩
set_option maxHeartbeats 4000000 in
theorem am_isSheet {l : Launch} {G : GW} {h : AH} {n : Nat} (c : Int32) : AM l G yX4_isSheet cX4_isSheet 1 (some .boolean) 1 0 0 [.int c] h n (Qi (b2i (inI c 0 3)) h n) := by
  refine AM.of (L := [some (.int c)]) (by decide) (Nat.le_of_ble_eq_true rfl) rfl ?_
  refine ew_iload_n (t := 1) dX4_isSheet_0 rfl rfl rfl ?_
  refine ew_i2l (t := 2) dX4_isSheet_1 rfl ?_
  refine ew_lc0 (t := 3) dX4_isSheet_2 rfl ?_
  refine ew_ldc2 (t := 6) (v := 3) dX4_isSheet_3 q1364 rfl ?_
  refine ew_callS (t := 9) (As := [_, _, _]) (am_in _ _ _) (lw_S q1153 q1154 q60 q1155) naX4_in dX4_isSheet_6 rfl (Nat.le_of_ble_eq_true rfl) (Nat.le_of_ble_eq_true rfl) (Nat.le_refl _) (Nat.le_refl _) (Nat.le_of_ble_eq_true rfl) rfl (qi ?_)
  exact ew_zret rfl (b2i_nar _) dX4_isSheet_9 (Nat.le_refl _) (Nat.le_refl _) ⟨by rw [show inL c.toInt64 0 3 = inI c 0 3 from inL_I c 0 3], rfl, rfl⟩
set_option maxHeartbeats 4000000 in
theorem am_isLane {l : Launch} {G : GW} {h : AH} {n : Nat} (c : Int32) : AM l G yX4_isLane cX4_isLane 1 (some .boolean) 1 0 0 [.int c] h n (Qi (b2i (inI c 0 2)) h n) := by
  refine AM.of (L := [some (.int c)]) (by decide) (Nat.le_of_ble_eq_true rfl) rfl ?_
  refine ew_iload_n (t := 1) dX4_isLane_0 rfl rfl rfl ?_
  refine ew_i2l (t := 2) dX4_isLane_1 rfl ?_
  refine ew_lc0 (t := 3) dX4_isLane_2 rfl ?_
  refine ew_ldc2 (t := 6) (v := 2) dX4_isLane_3 q1175 rfl ?_
  refine ew_callS (t := 9) (As := [_, _, _]) (am_in _ _ _) (lw_S q1153 q1154 q60 q1155) naX4_in dX4_isLane_6 rfl (Nat.le_of_ble_eq_true rfl) (Nat.le_of_ble_eq_true rfl) (Nat.le_refl _) (Nat.le_refl _) (Nat.le_of_ble_eq_true rfl) rfl (qi ?_)
  exact ew_zret rfl (b2i_nar _) dX4_isLane_9 (Nat.le_refl _) (Nat.le_refl _) ⟨by rw [show inL c.toInt64 0 2 = inI c 0 2 from inL_I c 0 2], rfl, rfl⟩
/-- a course's step in rows, in columns; the cell so many times by a course from one -/
def rstep (c : Int32) : Int32 := if c = 7 then -1 else if c < 2 then -1 else if ¬ 2 < c then 0 else if 6 ≤ c then 0 else 1
def cstep (c : Int32) : Int32 := if 0 < c ∧ c < 4 then 1 else if 4 < c ∧ c < 8 then -1 else 0
def goneF (cell course times : Int32) : Int32 := if inI (cell / 10 + rstep course * times) 0 9 = true ∧ inI (cell - cell / 10 * 10 + cstep course * times) 0 9 = true then 10 * (cell / 10 + rstep course * times) + (cell - cell / 10 * 10 + cstep course * times) else -4
set_option maxHeartbeats 4000000 in
theorem am_rowStep {l : Launch} {G : GW} {h : AH} {n : Nat} (c : Int32) : AM l G yX4_rowStep cX4_rowStep 1 (some .int) 0 0 0 [.int c] h n (Qi (rstep c) h n) := by
  refine AM.of (L := [some (.int c)]) (by decide) (Nat.le_of_ble_eq_true rfl) rfl ?_
  refine ew_iload_n (t := 1) dX4_rowStep_0 rfl rfl rfl ?_
  refine ew_bipush (t := 3) (v := 7) dX4_rowStep_1 (by decide) rfl ?_
  refine ew_icmp_eq (t := 11) (t2 := 6) dX4_rowStep_3 rfl rfl (fun c_3 => ?_) (fun c_3 => ?_)
  · refine ew_icm1 (t := 12) dX4_rowStep_11 rfl ?_
    refine ew_goto (t := 31) dX4_rowStep_12 rfl ?_
    exact ew_iret rfl dX4_rowStep_31 (Nat.le_refl _) (Nat.le_refl _) ⟨by grind [rstep], rfl, rfl⟩
  · refine ew_iload_n (t := 7) dX4_rowStep_6 rfl rfl rfl ?_
    refine ew_ic2 (t := 8) dX4_rowStep_7 rfl ?_
    refine ew_icmp_ge (t := 15) (t2 := 11) dX4_rowStep_8 rfl rfl (fun c_8 => ?_) (fun c_8 => ?_)
    · refine ew_iload_n (t := 16) dX4_rowStep_15 rfl rfl rfl ?_
      refine ew_ic2 (t := 17) dX4_rowStep_16 rfl ?_
      refine ew_icmp_le (t := 30) (t2 := 20) dX4_rowStep_17 rfl rfl (fun c_17 => ?_) (fun c_17 => ?_)
      · refine ew_ic0 (t := 31) dX4_rowStep_30 rfl ?_
        exact ew_iret rfl dX4_rowStep_31 (Nat.le_refl _) (Nat.le_refl _) ⟨by grind [rstep], rfl, rfl⟩
      · refine ew_iload_n (t := 21) dX4_rowStep_20 rfl rfl rfl ?_
        refine ew_bipush (t := 23) (v := 6) dX4_rowStep_21 (by decide) rfl ?_
        refine ew_icmp_ge (t := 30) (t2 := 26) dX4_rowStep_23 rfl rfl (fun c_23 => ?_) (fun c_23 => ?_)
        · refine ew_ic0 (t := 31) dX4_rowStep_30 rfl ?_
          exact ew_iret rfl dX4_rowStep_31 (Nat.le_refl _) (Nat.le_refl _) ⟨by grind [rstep], rfl, rfl⟩
        · refine ew_ic1 (t := 27) dX4_rowStep_26 rfl ?_
          refine ew_goto (t := 31) dX4_rowStep_27 rfl ?_
          exact ew_iret rfl dX4_rowStep_31 (Nat.le_refl _) (Nat.le_refl _) ⟨by grind [rstep], rfl, rfl⟩
    · refine ew_icm1 (t := 12) dX4_rowStep_11 rfl ?_
      refine ew_goto (t := 31) dX4_rowStep_12 rfl ?_
      exact ew_iret rfl dX4_rowStep_31 (Nat.le_refl _) (Nat.le_refl _) ⟨by grind [rstep], rfl, rfl⟩
set_option maxHeartbeats 4000000 in
theorem am_columnStep {l : Launch} {G : GW} {h : AH} {n : Nat} (c : Int32) : AM l G yX4_columnStep cX4_columnStep 1 (some .int) 0 0 0 [.int c] h n (Qi (cstep c) h n) := by
  refine AM.of (L := [some (.int c)]) (by decide) (Nat.le_of_ble_eq_true rfl) rfl ?_
  refine ew_iload_n (t := 1) dX4_columnStep_0 rfl rfl rfl ?_
  refine ew_if_le (t := 13) (t2 := 4) dX4_columnStep_1 rfl rfl (fun c_1 => ?_) (fun c_1 => ?_)
  · refine ew_iload_n (t := 14) dX4_columnStep_13 rfl rfl rfl ?_
    refine ew_ic4 (t := 15) dX4_columnStep_14 rfl ?_
    refine ew_icmp_le (t := 28) (t2 := 18) dX4_columnStep_15 rfl rfl (fun c_15 => ?_) (fun c_15 => ?_)
    · refine ew_ic0 (t := 29) dX4_columnStep_28 rfl ?_
      exact ew_iret rfl dX4_columnStep_29 (Nat.le_refl _) (Nat.le_refl _) ⟨by grind [cstep], rfl, rfl⟩
    · refine ew_iload_n (t := 19) dX4_columnStep_18 rfl rfl rfl ?_
      refine ew_bipush (t := 21) (v := 8) dX4_columnStep_19 (by decide) rfl ?_
      refine ew_icmp_ge (t := 28) (t2 := 24) dX4_columnStep_21 rfl rfl (fun c_21 => ?_) (fun c_21 => ?_)
      · refine ew_ic0 (t := 29) dX4_columnStep_28 rfl ?_
        exact ew_iret rfl dX4_columnStep_29 (Nat.le_refl _) (Nat.le_refl _) ⟨by grind [cstep], rfl, rfl⟩
      · refine ew_icm1 (t := 25) dX4_columnStep_24 rfl ?_
        refine ew_goto (t := 29) dX4_columnStep_25 rfl ?_
        exact ew_iret rfl dX4_columnStep_29 (Nat.le_refl _) (Nat.le_refl _) ⟨by grind [cstep], rfl, rfl⟩
  · refine ew_iload_n (t := 5) dX4_columnStep_4 rfl rfl rfl ?_
    refine ew_ic4 (t := 6) dX4_columnStep_5 rfl ?_
    refine ew_icmp_ge (t := 13) (t2 := 9) dX4_columnStep_6 rfl rfl (fun c_6 => ?_) (fun c_6 => ?_)
    · refine ew_iload_n (t := 14) dX4_columnStep_13 rfl rfl rfl ?_
      refine ew_ic4 (t := 15) dX4_columnStep_14 rfl ?_
      refine ew_icmp_le (t := 28) (t2 := 18) dX4_columnStep_15 rfl rfl (fun c_15 => ?_) (fun c_15 => ?_)
      · refine ew_ic0 (t := 29) dX4_columnStep_28 rfl ?_
        exact ew_iret rfl dX4_columnStep_29 (Nat.le_refl _) (Nat.le_refl _) ⟨by grind [cstep], rfl, rfl⟩
      · refine ew_iload_n (t := 19) dX4_columnStep_18 rfl rfl rfl ?_
        refine ew_bipush (t := 21) (v := 8) dX4_columnStep_19 (by decide) rfl ?_
        refine ew_icmp_ge (t := 28) (t2 := 24) dX4_columnStep_21 rfl rfl (fun c_21 => ?_) (fun c_21 => ?_)
        · refine ew_ic0 (t := 29) dX4_columnStep_28 rfl ?_
          exact ew_iret rfl dX4_columnStep_29 (Nat.le_refl _) (Nat.le_refl _) ⟨by grind [cstep], rfl, rfl⟩
        · refine ew_icm1 (t := 25) dX4_columnStep_24 rfl ?_
          refine ew_goto (t := 29) dX4_columnStep_25 rfl ?_
          exact ew_iret rfl dX4_columnStep_29 (Nat.le_refl _) (Nat.le_refl _) ⟨by grind [cstep], rfl, rfl⟩
    · refine ew_ic1 (t := 10) dX4_columnStep_9 rfl ?_
      refine ew_goto (t := 29) dX4_columnStep_10 rfl ?_
      exact ew_iret rfl dX4_columnStep_29 (Nat.le_refl _) (Nat.le_refl _) ⟨by grind [cstep], rfl, rfl⟩
set_option maxHeartbeats 4000000 in
theorem am_gone {l : Launch} {G : GW} {h : AH} {n : Nat} (a c t : Int32) : AM l G yX4_gone cX4_gone 5 (some .int) 1 0 0 [.int a, .int c, .int t] h n (Qi (goneF a c t) h n) := by
  refine AM.of (L := [some (.int a), some (.int c), some (.int t), none, none]) (by decide) (Nat.le_of_ble_eq_true rfl) rfl ?_
  refine ew_iload_n (t := 1) dX4_gone_0 rfl rfl rfl ?_
  refine ew_bipush (t := 3) (v := 10) dX4_gone_1 (by decide) rfl ?_
  refine ew_idiv (t := 4) dX4_gone_3 (by decide) rfl ?_
  refine ew_iload_n (t := 5) dX4_gone_4 rfl rfl rfl ?_
  refine ew_callS (t := 8) (As := [_]) (am_rowStep  _) (lw_S q1230 q1231 q60 q1232) naX4_rowStep dX4_gone_5 rfl (Nat.le_of_ble_eq_true rfl) (Nat.le_of_ble_eq_true rfl) (Nat.le_refl _) (Nat.le_refl _) (Nat.le_of_ble_eq_true rfl) rfl (qi ?_)
  refine ew_iload_n (t := 9) dX4_gone_8 rfl rfl rfl ?_
  refine ew_imul (t := 10) dX4_gone_9 rfl ?_
  refine ew_iadd (t := 11) dX4_gone_10 rfl ?_
  refine ew_istore_n (t := 12) (L' := [some (.int a), some (.int c), some (.int t), some (.int ((a / 10) + ((rstep c) * t))), none]) dX4_gone_11 rfl (Nat.le_of_ble_eq_true rfl) rfl rfl ?_
  refine ew_iload_n (t := 13) dX4_gone_12 rfl rfl rfl ?_
  refine ew_bipush (t := 15) (v := 10) dX4_gone_13 (by decide) rfl ?_
  refine ew_irem (t := 16) dX4_gone_15 (by decide) rfl ?_
  refine ew_iload_n (t := 17) dX4_gone_16 rfl rfl rfl ?_
  refine ew_callS (t := 20) (As := [_]) (am_columnStep  _) (lw_S q1233 q1234 q60 q1235) naX4_columnStep dX4_gone_17 rfl (Nat.le_of_ble_eq_true rfl) (Nat.le_of_ble_eq_true rfl) (Nat.le_refl _) (Nat.le_refl _) (Nat.le_of_ble_eq_true rfl) rfl (qi ?_)
  refine ew_iload_n (t := 21) dX4_gone_20 rfl rfl rfl ?_
  refine ew_imul (t := 22) dX4_gone_21 rfl ?_
  refine ew_iadd (t := 23) dX4_gone_22 rfl ?_
  refine ew_istore (t := 25) (L' := [some (.int a), some (.int c), some (.int t), some (.int ((a / 10) + ((rstep c) * t))), some (.int ((a - a / 10 * 10) + ((cstep c) * t)))]) dX4_gone_23 (Nat.le_of_ble_eq_true rfl) rfl rfl ?_
  refine ew_iload_n (t := 26) dX4_gone_25 rfl rfl rfl ?_
  refine ew_i2l (t := 27) dX4_gone_26 rfl ?_
  refine ew_lc0 (t := 28) dX4_gone_27 rfl ?_
  refine ew_ldc2 (t := 31) (v := 9) dX4_gone_28 q1206 rfl ?_
  refine ew_callS (t := 34) (As := [_, _, _]) (am_in _ _ _) (lw_S q1153 q1154 q60 q1155) naX4_in dX4_gone_31 rfl (Nat.le_of_ble_eq_true rfl) (Nat.le_of_ble_eq_true rfl) (Nat.le_refl _) (Nat.le_refl _) (Nat.le_of_ble_eq_true rfl) rfl (qi ?_)
  refine ew_if_eq (t := 60) (t2 := 37) dX4_gone_34 rfl rfl (fun c_34 => ?_) (fun c_34 => ?_)
  · refine ew_bipush (t := 62) (v := (-4)) dX4_gone_60 (by decide) rfl ?_
    exact ew_iret rfl dX4_gone_62 (Nat.le_refl _) (Nat.le_refl _) ⟨by
      have hl1 : ∀ z : Int32, inL z.toInt64 0 9 = inI z 0 9 := fun z => inL_I z 0 9
      grind [goneF, b2i_0], rfl, rfl⟩
  · refine ew_iload (t := 39) dX4_gone_37 rfl rfl ?_
    refine ew_i2l (t := 40) dX4_gone_39 rfl ?_
    refine ew_lc0 (t := 41) dX4_gone_40 rfl ?_
    refine ew_ldc2 (t := 44) (v := 9) dX4_gone_41 q1206 rfl ?_
    refine ew_callS (t := 47) (As := [_, _, _]) (am_in _ _ _) (lw_S q1153 q1154 q60 q1155) naX4_in dX4_gone_44 rfl (Nat.le_of_ble_eq_true rfl) (Nat.le_of_ble_eq_true rfl) (Nat.le_refl _) (Nat.le_refl _) (Nat.le_of_ble_eq_true rfl) rfl (qi ?_)
    refine ew_if_eq (t := 60) (t2 := 50) dX4_gone_47 rfl rfl (fun c_47 => ?_) (fun c_47 => ?_)
    · refine ew_bipush (t := 62) (v := (-4)) dX4_gone_60 (by decide) rfl ?_
      exact ew_iret rfl dX4_gone_62 (Nat.le_refl _) (Nat.le_refl _) ⟨by
      have hl1 : ∀ z : Int32, inL z.toInt64 0 9 = inI z 0 9 := fun z => inL_I z 0 9
      grind [goneF, b2i_0], rfl, rfl⟩
    · refine ew_bipush (t := 52) (v := 10) dX4_gone_50 (by decide) rfl ?_
      refine ew_iload_n (t := 53) dX4_gone_52 rfl rfl rfl ?_
      refine ew_imul (t := 54) dX4_gone_53 rfl ?_
      refine ew_iload (t := 56) dX4_gone_54 rfl rfl ?_
      refine ew_iadd (t := 57) dX4_gone_56 rfl ?_
      refine ew_goto (t := 62) dX4_gone_57 rfl ?_
      exact ew_iret rfl dX4_gone_62 (Nat.le_refl _) (Nat.le_refl _) ⟨by
      have hl1 : ∀ z : Int32, inL z.toInt64 0 9 = inI z 0 9 := fun z => inL_I z 0 9
      grind [goneF, b2i_0], rfl, rfl⟩
