-- Obj fields dict_keys(['cls', 'fun', 'sname', 'refs', 'extra', 'ups'])
/-! the reference: refuses, drop, item, sheet -/
set_option maxRecDepth 100000
def refI (LN SZ : Nat → Int32) (t : Nat) (lane i nn : Int32) : Int32 := if 0 ≤ LN t then (if LN t = lane then (if i < 0 then -13 else if i.toInt64 + nn.toInt64 ≤ (SZ t).toInt64 then 0 else -13) else -12) else -11
theorem refI_ok {LN SZ : Nat → Int32} {t m z : Nat} {lane i : Int32} (hm : m ≤ 16) (hz : z ≤ 16) (eZ : SZ t = nI z) (h : 0 ≤ refI LN SZ t lane i (nI m)) : LN t = lane ∧ ∃ k, i = nI k ∧ k + m ≤ z := by
  unfold refI at h
  by_cases c1 : 0 ≤ LN t
  · rw [if_pos c1] at h
    by_cases c2 : LN t = lane
    · rw [if_pos c2] at h
      by_cases c3 : i < 0
      · rw [if_pos c3] at h; exact absurd h (by decide)
      · rw [if_neg c3] at h
        by_cases c4 : i.toInt64 + (nI m).toInt64 ≤ (SZ t).toInt64
        · refine ⟨c2, ?_⟩
          obtain ⟨k, hk, rfl⟩ := nI_of c3
          refine ⟨k, rfl, ?_⟩
          rw [eZ] at c4
          rw [nI_l (by omega), nI_l (by omega), nI_l (by omega), lN_add] at c4
          exact (pk_lLE (by omega) (by omega)).mp c4
        · rw [if_neg c4] at h; exact absurd h (by decide)
    · rw [if_neg c2] at h; exact absurd h (by decide)
  · rw [if_neg c1] at h; exact absurd h (by decide)
def drpP (s : Nat → Int32) (F : Nat → Nat → Int32) (c : Int32) : OR := if ¬ b2i (inI c 0 3) = 0 then (if 0 ≤ F 59 c.toNatClampNeg then (F 60 c.toNatClampNeg, s, va_up F 59 (upd (F 59) c.toNatClampNeg (-1))) else (-11, s, F)) else (-1, s, F)
def nrI (lane v : Int32) : Int32 := if ¬ lane = 0 then (if ¬ lane = 1 then v else v.toInt16.toInt32) else v.toInt8.toInt32
def itmP (s : Nat → Int32) (F : Nat → Nat → Int32) (c lane i v : Int32) : OR := if b2i (inI c 0 3) = 0 then (-1, s, F) else if ¬ b2i (inI lane 0 2) = 0 then (if 0 ≤ refI (F 59) (F 60) c.toNatClampNeg lane i 1 then (1, s, va_up F 61 (upd (F 61) (16 * c.toNatClampNeg + i.toNatClampNeg) (nrI lane v))) else (refI (F 59) (F 60) c.toNatClampNeg lane i 1, s, F)) else (-1, s, F)
def zrI (f : Nat → Int32) (t : Nat) : Nat → Nat → Int32
  | 0 => f
  | k + 1 => upd (zrI f t k) (16 * t + k) 0
def shtP (s : Nat → Int32) (F : Nat → Nat → Int32) (c lane nn : Int32) : OR := if b2i (inI c 0 3) = 0 then (-1, s, F) else if b2i (inI lane 0 2) = 0 then (-1, s, F) else if nn ≤ 16 then (if 0 ≤ nn then (nn, s, va_up (va_up (va_up F 60 (upd (F 60) c.toNatClampNeg nn)) 59 (upd (F 59) c.toNatClampNeg lane)) 61 (zrI (F 61) c.toNatClampNeg 16)) else (-14, s, F)) else (-1, s, F)

set_option maxHeartbeats 4000000 in
theorem am_refuses {l : Launch} {G : GW} {h : AH} {n : Nat} {s : Nat → Int32} {al : Int64} {F : Nat → Nat → Int32} {FL : Nat → Int64} (mc : MC s al F FL h) {t : Nat} (ht : t < 4) (lane i nn : Int32) : AM l G yX4_refuses cX4_refuses 5 (some .int) 0 0 0 [.ref 33, .int (nI t), .int lane, .int i, .int nn] h n (Qi (refI (F 59) (F 60) t lane i nn) h n) := by
  refine AM.of (L := [some (.ref 33), some (.int (nI t)), some (.int lane), some (.int i), some (.int nn)]) (by decide) (Nat.le_of_ble_eq_true rfl) rfl ?_
  refine ew_aload_n (t := 1) dX4_refuses_0 rfl rfl rfl ?_
  refine ew_get (t := 4) (j := 38) (v := .ref 59) fcX4 mc.1 (Nat.le_of_ble_eq_true rfl) q1059 rfl dX4_refuses_1 rfl ?_
  refine ew_iload_n (t := 5) dX4_refuses_4 rfl rfl rfl ?_
  refine ew_iald (t := 6) (j := t) (N := 4) (mI mc 59 rfl) (vp_in_nI (by omega) (by omega)) (nI_clamp (by omega)) dX4_refuses_5 rfl ?_
  refine ew_if_ge (t := 12) (t2 := 9) dX4_refuses_6 rfl rfl (fun c_6 => ?_) (fun c_6 => ?_)
  · refine ew_aload_n (t := 13) dX4_refuses_12 rfl rfl rfl ?_
    refine ew_get (t := 16) (j := 38) (v := .ref 59) fcX4 mc.1 (Nat.le_of_ble_eq_true rfl) q1059 rfl dX4_refuses_13 rfl ?_
    refine ew_iload_n (t := 17) dX4_refuses_16 rfl rfl rfl ?_
    refine ew_iald (t := 18) (j := t) (N := 4) (mI mc 59 rfl) (vp_in_nI (by omega) (by omega)) (nI_clamp (by omega)) dX4_refuses_17 rfl ?_
    refine ew_iload_n (t := 19) dX4_refuses_18 rfl rfl rfl ?_
    refine ew_icmp_eq (t := 25) (t2 := 22) dX4_refuses_19 rfl rfl (fun c_19 => ?_) (fun c_19 => ?_)
    · refine ew_iload_n (t := 26) dX4_refuses_25 rfl rfl rfl ?_
      refine ew_if_lt (t := 46) (t2 := 29) dX4_refuses_26 rfl rfl (fun c_26 => ?_) (fun c_26 => ?_)
      · refine ew_bipush (t := 48) (v := (-13)) dX4_refuses_46 (by decide) rfl ?_
        refine ew_goto (t := 52) dX4_refuses_48 rfl ?_
        exact ew_iret rfl dX4_refuses_52 (Nat.le_refl _) (Nat.le_refl _) ⟨congrArg (fun z => some (Value.int z)) (by unfold refI; rw [if_pos c_6, if_pos c_19, if_pos c_26]), rfl, rfl⟩
      · refine ew_iload_n (t := 30) dX4_refuses_29 rfl rfl rfl ?_
        refine ew_i2l (t := 31) dX4_refuses_30 rfl ?_
        refine ew_iload (t := 33) dX4_refuses_31 rfl rfl ?_
        refine ew_i2l (t := 34) dX4_refuses_33 rfl ?_
        refine ew_ladd (t := 35) dX4_refuses_34 rfl ?_
        refine ew_aload_n (t := 36) dX4_refuses_35 rfl rfl rfl ?_
        refine ew_get (t := 39) (j := 39) (v := .ref 60) fcX4 mc.1 (Nat.le_of_ble_eq_true rfl) q1060 rfl dX4_refuses_36 rfl ?_
        refine ew_iload_n (t := 40) dX4_refuses_39 rfl rfl rfl ?_
        refine ew_iald (t := 41) (j := t) (N := 4) (mI mc 60 rfl) (vp_in_nI (by omega) (by omega)) (nI_clamp (by omega)) dX4_refuses_40 rfl ?_
        refine ew_i2l (t := 42) dX4_refuses_41 rfl ?_
        refine ew_lcmp_le (t1 := 43) (t := 51) (t2 := 46) dX4_refuses_42 rfl dX4_refuses_43 rfl rfl (fun c_42 => ?_) (fun c_42 => ?_)
        · refine ew_ic0 (t := 52) dX4_refuses_51 rfl ?_
          exact ew_iret rfl dX4_refuses_52 (Nat.le_refl _) (Nat.le_refl _) ⟨congrArg (fun z => some (Value.int z)) (by unfold refI; rw [if_pos c_6, if_pos c_19, if_neg c_26, if_pos c_42]), rfl, rfl⟩
        · refine ew_bipush (t := 48) (v := (-13)) dX4_refuses_46 (by decide) rfl ?_
          refine ew_goto (t := 52) dX4_refuses_48 rfl ?_
          exact ew_iret rfl dX4_refuses_52 (Nat.le_refl _) (Nat.le_refl _) ⟨congrArg (fun z => some (Value.int z)) (by unfold refI; rw [if_pos c_6, if_pos c_19, if_neg c_26, if_neg c_42]), rfl, rfl⟩
    · refine ew_bipush (t := 24) (v := (-12)) dX4_refuses_22 (by decide) rfl ?_
      exact ew_iret rfl dX4_refuses_24 (Nat.le_refl _) (Nat.le_refl _) ⟨congrArg (fun z => some (Value.int z)) (by unfold refI; rw [if_pos c_6, if_neg c_19]), rfl, rfl⟩
  · refine ew_bipush (t := 11) (v := (-11)) dX4_refuses_9 (by decide) rfl ?_
    exact ew_iret rfl dX4_refuses_11 (Nat.le_refl _) (Nat.le_refl _) ⟨congrArg (fun z => some (Value.int z)) (by unfold refI; rw [if_neg c_6]), rfl, rfl⟩
set_option maxHeartbeats 4000000 in
theorem mc_drop {l : Launch} {G : GW} {h : AH} {n : Nat} {s : Nat → Int32} {al : Int64} {F : Nat → Nat → Int32} {FL : Nat → Int64} (mc : MC s al F FL h) (c : Int32) : AM l G yX4_drop cX4_drop 2 (some .int) 3 0 0 [.ref 33, .int c] h n (OpR h n (drpP s F c)) := by
  refine AM.of (L := [some (.ref 33), some (.int c)]) (by decide) (Nat.le_of_ble_eq_true rfl) rfl ?_
  refine ew_iload_n (t := 1) dX4_drop_0 rfl rfl rfl ?_
  refine ew_callS (t := 4) (As := [_]) (am_isSheet  _) (lw_S q1361 q1362 q60 q1363) naX4_isSheet dX4_drop_1 rfl (Nat.le_of_ble_eq_true rfl) (Nat.le_of_ble_eq_true rfl) (Nat.le_refl _) (Nat.le_refl _) (Nat.le_of_ble_eq_true rfl) rfl (qi ?_)
  refine ew_if_ne (t := 9) (t2 := 7) dX4_drop_4 rfl rfl (fun c_4 => ?_) (fun c_4 => ?_)
  · obtain ⟨t, ht0, ht, rfl⟩ := inI_nat (c := c) (lo := 0) (hi := 3) (by decide) (by decide) (b2i_1.mp c_4)
    refine ew_aload_n (t := 10) dX4_drop_9 rfl rfl rfl ?_
    refine ew_get (t := 13) (j := 38) (v := .ref 59) fcX4 mc.1 (Nat.le_of_ble_eq_true rfl) q1059 rfl dX4_drop_10 rfl ?_
    refine ew_iload_n (t := 14) dX4_drop_13 rfl rfl rfl ?_
    refine ew_iald (t := 15) (j := t) (N := 4) (mI mc 59 rfl) (vp_in_nI (by omega) (by omega)) (nI_clamp (by omega)) dX4_drop_14 rfl ?_
    refine ew_if_ge (t := 21) (t2 := 18) dX4_drop_15 rfl rfl (fun c_15 => ?_) (fun c_15 => ?_)
    · refine ew_aload_n (t := 22) dX4_drop_21 rfl rfl rfl ?_
      refine ew_get (t := 25) (j := 38) (v := .ref 59) fcX4 mc.1 (Nat.le_of_ble_eq_true rfl) q1059 rfl dX4_drop_22 rfl ?_
      refine ew_iload_n (t := 26) dX4_drop_25 rfl rfl rfl ?_
      refine ew_icm1 (t := 27) dX4_drop_26 rfl ?_
      refine ew_iast (t := 28) (j := t) (N := 4) (h' := (hov h [(59, IA 4 (upd (F 59) t (-1)))])) (mI mc 59 rfl) (vp_in_nI (by omega) (by omega)) (nI_clamp (by omega)) dX4_drop_27 (hov_up0) rfl ?_
      refine ew_aload_n (t := 29) dX4_drop_28 rfl rfl rfl ?_
      refine ew_get (t := 32) (j := 39) (v := .ref 60) fcX4 mc.1 (Nat.le_of_ble_eq_true rfl) q1060 rfl dX4_drop_29 rfl ?_
      refine ew_iload_n (t := 33) dX4_drop_32 rfl rfl rfl ?_
      refine ew_iald (t := 34) (j := t) (N := 4) (mI mc 60 rfl) (vp_in_nI (by omega) (by omega)) (nI_clamp (by omega)) dX4_drop_33 rfl ?_
      exact ew_iret rfl dX4_drop_34 (Nat.le_refl _) (Nat.le_refl _) (by unfold drpP; rw [if_pos c_4, nI_clamp (n := t) (by omega), if_pos c_15]; exact OpR.ov (MC_I (c := 59) rfl (l := []) mc) (ovI rfl))
    · refine ew_bipush (t := 20) (v := (-11)) dX4_drop_18 (by decide) rfl ?_
      exact ew_iret rfl dX4_drop_20 (Nat.le_refl _) (Nat.le_refl _) (by unfold drpP; rw [if_pos c_4, nI_clamp (n := t) (by omega), if_neg c_15]; exact OpR.same mc)
  · refine ew_icm1 (t := 8) dX4_drop_7 rfl ?_
    exact ew_iret rfl dX4_drop_8 (Nat.le_refl _) (Nat.le_refl _) (by unfold drpP; rw [if_neg (not_not_intro c_4)]; exact OpR.same mc)
set_option maxHeartbeats 4000000 in
theorem mc_item {l : Launch} {G : GW} {h : AH} {n : Nat} {s : Nat → Int32} {al : Int64} {F : Nat → Nat → Int32} {FL : Nat → Int64} (mc : MC s al F FL h) (hSZ : ∀ t, t < 4 → ∃ z, z ≤ 16 ∧ F 60 t = nI z) (c lane i v : Int32) : AM l G yX4_item cX4_item 6 (some .int) 3 0 0 [.ref 33, .int c, .int lane, .int i, .int v] h n (OpR h n (itmP s F c lane i v)) := by
  refine AM.of (L := [some (.ref 33), some (.int c), some (.int lane), some (.int i), some (.int v), none]) (by decide) (Nat.le_of_ble_eq_true rfl) rfl ?_
  refine ew_iload_n (t := 1) dX4_item_0 rfl rfl rfl ?_
  refine ew_callS (t := 4) (As := [_]) (am_isSheet  _) (lw_S q1361 q1362 q60 q1363) naX4_isSheet dX4_item_1 rfl (Nat.le_of_ble_eq_true rfl) (Nat.le_of_ble_eq_true rfl) (Nat.le_refl _) (Nat.le_refl _) (Nat.le_of_ble_eq_true rfl) rfl (qi ?_)
  refine ew_if_eq (t := 14) (t2 := 7) dX4_item_4 rfl rfl (fun c_4 => ?_) (fun c_4 => ?_)
  · refine ew_icm1 (t := 15) dX4_item_14 rfl ?_
    exact ew_iret rfl dX4_item_15 (Nat.le_refl _) (Nat.le_refl _) (by unfold itmP; rw [if_pos c_4]; exact OpR.same mc)
  · refine ew_iload_n (t := 8) dX4_item_7 rfl rfl rfl ?_
    refine ew_callS (t := 11) (As := [_]) (am_isLane  _) (lw_S q1365 q1366 q60 q1367) naX4_isLane dX4_item_8 rfl (Nat.le_of_ble_eq_true rfl) (Nat.le_of_ble_eq_true rfl) (Nat.le_refl _) (Nat.le_refl _) (Nat.le_of_ble_eq_true rfl) rfl (qi ?_)
    refine ew_if_ne (t := 16) (t2 := 14) dX4_item_11 rfl rfl (fun c_11 => ?_) (fun c_11 => ?_)
    · obtain ⟨t, ht0, ht, rfl⟩ := inI_nat (c := c) (lo := 0) (hi := 3) (by decide) (by decide) (b2i_1.mp c_4)
      refine ew_aload_n (t := 17) dX4_item_16 rfl rfl rfl ?_
      refine ew_iload_n (t := 18) dX4_item_17 rfl rfl rfl ?_
      refine ew_iload_n (t := 19) dX4_item_18 rfl rfl rfl ?_
      refine ew_iload_n (t := 20) dX4_item_19 rfl rfl rfl ?_
      refine ew_ic1 (t := 21) dX4_item_20 rfl ?_
      refine ew_callV (t := 24) (As := [_, _, _, _]) (am_refuses (h := h) (t := t) mc (by omega) lane i 1) (fcX4).1 mc.1 (lw_V q1368 q1370 qs48 q60 q1371) rfl naX4_refuses dX4_item_21 rfl (Nat.le_of_ble_eq_true rfl) (Nat.le_of_ble_eq_true rfl) (Nat.le_refl _) (Nat.le_refl _) (Nat.le_of_ble_eq_true rfl) rfl (qi ?_)
      refine ew_istore (t := 26) (L' := [some (.ref 33), some (.int (nI t)), some (.int lane), some (.int i), some (.int v), some (.int (refI (F 59) (F 60) t lane i 1))]) dX4_item_24 (Nat.le_of_ble_eq_true rfl) rfl rfl ?_
      refine ew_iload (t := 28) dX4_item_26 rfl rfl ?_
      refine ew_if_ge (t := 34) (t2 := 31) dX4_item_28 rfl rfl (fun c_28 => ?_) (fun c_28 => ?_)
      · obtain ⟨z, hz, eZ⟩ := hSZ t (by omega)
        obtain ⟨eL, k, rfl, hk⟩ := refI_ok (m := 1) (by omega) hz eZ c_28
        refine ew_aload_n (t := 35) dX4_item_34 rfl rfl rfl ?_
        refine ew_get (t := 38) (j := 40) (v := .ref 61) fcX4 mc.1 (Nat.le_of_ble_eq_true rfl) q1061 rfl dX4_item_35 rfl ?_
        refine ew_bipush (t := 40) (v := 16) dX4_item_38 (by decide) rfl ?_
        refine ew_iload_n (t := 41) dX4_item_40 rfl rfl rfl ?_
        refine ew_imul (t := 42) dX4_item_41 rfl ?_
        refine ew_iload_n (t := 43) dX4_item_42 rfl rfl rfl ?_
        refine ew_iadd (t := 44) dX4_item_43 rfl ?_
        rw [show (16 : Int32) * nI t + nI k = nI (16 * t + k) from by rw [show (16 : Int32) = nI 16 from rfl, pk_mul, nI_add]]
        refine ew_iload_n (t := 45) dX4_item_44 rfl rfl rfl ?_
        have J67 : ∀ (j67_0 : Int32), j67_0 = ((if ¬ lane = 0 then (if ¬ lane = 1 then v else v.toInt16.toInt32) else v.toInt8.toInt32) : Int32) → EW l G yX4_item cX4_item 6 (some .int) 3 0 0 (OpR h n (itmP s F (nI t) lane (nI k) v)) 0 0 h n 67 [some (.ref 33), some (.int (nI t)), some (.int lane), some (.int (nI k)), some (.int v), some (.int (refI (F 59) (F 60) t lane (nI k) 1))] [.int j67_0, .int (nI (16 * t + k)), .ref 61] := by
          intro j67_0 hj67_0
          rw [show j67_0 = nrI lane v from hj67_0]
          refine ew_iast (t := 68) (j := (16 * t + k)) (N := 64) (h' := (hov h [(61, IA 64 (upd (F 61) (16 * t + k) (nrI lane v)))])) (mI mc 61 rfl) (vp_in_nI (by omega) (by omega)) (nI_clamp (by omega)) dX4_item_67 (hov_up0) rfl ?_
          refine ew_ic1 (t := 69) dX4_item_68 rfl ?_
          exact ew_iret rfl dX4_item_69 (Nat.le_refl _) (Nat.le_refl _) (by unfold itmP; rw [if_neg c_4, if_pos c_11, nI_clamp (n := t) (by omega), if_pos c_28, nI_clamp (n := k) (by omega)]; exact OpR.ov (MC_I (c := 61) rfl (l := []) mc) (ovI rfl))
        refine ew_if_ne (t := 54) (t2 := 48) dX4_item_45 rfl rfl (fun c_45 => ?_) (fun c_45 => ?_)
        · refine ew_iload_n (t := 55) dX4_item_54 rfl rfl rfl ?_
          refine ew_ic1 (t := 56) dX4_item_55 rfl ?_
          refine ew_icmp_ne (t := 65) (t2 := 59) dX4_item_56 rfl rfl (fun c_56 => ?_) (fun c_56 => ?_)
          · refine ew_iload (t := 67) dX4_item_65 rfl rfl ?_
            exact J67 v (by simp only [if_pos c_45, if_pos c_56])
          · refine ew_iload (t := 61) dX4_item_59 rfl rfl ?_
            refine ew_i2s (t := 62) dX4_item_61 rfl ?_
            refine ew_goto (t := 67) dX4_item_62 rfl ?_
            exact J67 v.toInt16.toInt32 (by simp only [if_pos c_45, if_neg (not_not_intro c_56)])
        · refine ew_iload (t := 50) dX4_item_48 rfl rfl ?_
          refine ew_i2b (t := 51) dX4_item_50 rfl ?_
          refine ew_goto (t := 67) dX4_item_51 rfl ?_
          exact J67 v.toInt8.toInt32 (by simp only [if_neg (not_not_intro c_45)])
      · refine ew_iload (t := 33) dX4_item_31 rfl rfl ?_
        exact ew_iret rfl dX4_item_33 (Nat.le_refl _) (Nat.le_refl _) (by unfold itmP; rw [if_neg c_4, if_pos c_11, nI_clamp (n := t) (by omega), if_neg c_28]; exact OpR.same mc)
    · refine ew_icm1 (t := 15) dX4_item_14 rfl ?_
      exact ew_iret rfl dX4_item_15 (Nat.le_refl _) (Nat.le_refl _) (by unfold itmP; rw [if_neg c_4, if_neg (not_not_intro c_11)]; exact OpR.same mc)
set_option maxHeartbeats 4000000 in
theorem lp_sheet {l : Launch} {G : GW} {h : AH} {n : Nat} {s : Nat → Int32} {al : Int64} {Q : Option Value → AH → Nat → Prop} (m33 : h 33 = some (MO s al)) {t : Nat} (ht : t < 4) {f0 : Nat → Int32} {lane nn : Int32} (hq : Q (some (.int nn)) (hov h [(61, IA 64 (zrI f0 t 16))]) n) : ∀ (f k : Nat), k + f = 16 → EW l G yX4_sheet cX4_sheet 5 (some .int) 3 0 0 Q 0 0 (hov h [(61, IA 64 (zrI f0 t k))]) n 46 [some (.ref 33), some (.int (nI t)), some (.int lane), some (.int nn), some (.int (nI k))] [] := by
  intro f
  induction f with
  | zero =>
    intro k  hk
    refine ew_iload (t := 48) dX4_sheet_46 rfl rfl ?_
    refine ew_bipush (t := 50) (v := 16) dX4_sheet_48 (by decide) rfl ?_
    refine ew_icmp_ge (t := 72) (t2 := 53) dX4_sheet_50 rfl rfl (fun c_50 => ?_) (fun c_50 => ?_)
    · refine ew_iload_n (t := 73) dX4_sheet_72 rfl rfl rfl ?_
      exact ew_iret rfl dX4_sheet_73 (Nat.le_refl _) (Nat.le_refl _) (by rw [show k = 16 by omega]; exact hq)
    · exact absurd (show (16 : Int32) ≤ nI k by rw [show k = 16 by omega]; decide) c_50
  | succ f ih =>
    intro k  hk
    refine ew_iload (t := 48) dX4_sheet_46 rfl rfl ?_
    refine ew_bipush (t := 50) (v := 16) dX4_sheet_48 (by decide) rfl ?_
    refine ew_icmp_ge (t := 72) (t2 := 53) dX4_sheet_50 rfl rfl (fun c_50 => ?_) (fun c_50 => ?_)
    · exact absurd c_50 (nI_ge (b := 16) (by omega) (by omega))
    · refine ew_aload_n (t := 54) dX4_sheet_53 rfl rfl rfl ?_
      refine ew_get (t := 57) (j := 40) (v := .ref 61) fcX4 m33 (Nat.le_of_ble_eq_true rfl) q1061 rfl dX4_sheet_54 rfl ?_
      refine ew_bipush (t := 59) (v := 16) dX4_sheet_57 (by decide) rfl ?_
      refine ew_iload_n (t := 60) dX4_sheet_59 rfl rfl rfl ?_
      refine ew_imul (t := 61) dX4_sheet_60 rfl ?_
      refine ew_iload (t := 63) dX4_sheet_61 rfl rfl ?_
      refine ew_iadd (t := 64) dX4_sheet_63 rfl ?_
      rw [show (16 : Int32) * nI t + nI k = nI (16 * t + k) from by rw [show (16 : Int32) = nI 16 from rfl, pk_mul, nI_add]]
      refine ew_ic0 (t := 65) dX4_sheet_64 rfl ?_
      refine ew_iast (t := 66) (j := (16 * t + k)) (N := 64) (h' := (hov h [(61, IA 64 (upd (zrI f0 t k) (16 * t + k) 0))])) rfl (vp_in_nI (by omega) (by omega)) (nI_clamp (by omega)) dX4_sheet_65 (hov_up rfl) rfl ?_
      refine ew_iinc (t := 69) (x := (nI k)) (v := ((nI k) + 1)) (L' := [some (.ref 33), some (.int (nI t)), some (.int lane), some (.int nn), some (.int ((nI k) + 1))]) dX4_sheet_66 rfl rfl (Nat.le_of_ble_eq_true rfl) rfl rfl ?_
      refine ew_goto (t := 46) dX4_sheet_69 rfl ?_
      rw [nI_1]
      exact ih (k + 1) (by omega)
set_option maxHeartbeats 4000000 in
theorem mc_sheet {l : Launch} {G : GW} {h : AH} {n : Nat} {s : Nat → Int32} {al : Int64} {F : Nat → Nat → Int32} {FL : Nat → Int64} (mc : MC s al F FL h) (c lane nn : Int32) : AM l G yX4_sheet cX4_sheet 5 (some .int) 3 0 0 [.ref 33, .int c, .int lane, .int nn] h n (OpR h n (shtP s F c lane nn)) := by
  refine AM.of (L := [some (.ref 33), some (.int c), some (.int lane), some (.int nn), none]) (by decide) (Nat.le_of_ble_eq_true rfl) rfl ?_
  refine ew_iload_n (t := 1) dX4_sheet_0 rfl rfl rfl ?_
  refine ew_callS (t := 4) (As := [_]) (am_isSheet  _) (lw_S q1361 q1362 q60 q1363) naX4_isSheet dX4_sheet_1 rfl (Nat.le_of_ble_eq_true rfl) (Nat.le_of_ble_eq_true rfl) (Nat.le_refl _) (Nat.le_refl _) (Nat.le_of_ble_eq_true rfl) rfl (qi ?_)
  refine ew_if_eq (t := 20) (t2 := 7) dX4_sheet_4 rfl rfl (fun c_4 => ?_) (fun c_4 => ?_)
  · refine ew_icm1 (t := 21) dX4_sheet_20 rfl ?_
    exact ew_iret rfl dX4_sheet_21 (Nat.le_refl _) (Nat.le_refl _) (by unfold shtP; rw [if_pos c_4]; exact OpR.same mc)
  · refine ew_iload_n (t := 8) dX4_sheet_7 rfl rfl rfl ?_
    refine ew_callS (t := 11) (As := [_]) (am_isLane  _) (lw_S q1365 q1366 q60 q1367) naX4_isLane dX4_sheet_8 rfl (Nat.le_of_ble_eq_true rfl) (Nat.le_of_ble_eq_true rfl) (Nat.le_refl _) (Nat.le_refl _) (Nat.le_of_ble_eq_true rfl) rfl (qi ?_)
    refine ew_if_eq (t := 20) (t2 := 14) dX4_sheet_11 rfl rfl (fun c_11 => ?_) (fun c_11 => ?_)
    · refine ew_icm1 (t := 21) dX4_sheet_20 rfl ?_
      exact ew_iret rfl dX4_sheet_21 (Nat.le_refl _) (Nat.le_refl _) (by unfold shtP; rw [if_neg c_4, if_pos c_11]; exact OpR.same mc)
    · refine ew_iload_n (t := 15) dX4_sheet_14 rfl rfl rfl ?_
      refine ew_bipush (t := 17) (v := 16) dX4_sheet_15 (by decide) rfl ?_
      refine ew_icmp_le (t := 22) (t2 := 20) dX4_sheet_17 rfl rfl (fun c_17 => ?_) (fun c_17 => ?_)
      · refine ew_iload_n (t := 23) dX4_sheet_22 rfl rfl rfl ?_
        refine ew_if_ge (t := 29) (t2 := 26) dX4_sheet_23 rfl rfl (fun c_23 => ?_) (fun c_23 => ?_)
        · obtain ⟨t, ht0, ht, rfl⟩ := inI_nat (c := c) (lo := 0) (hi := 3) (by decide) (by decide) (b2i_1.mp c_4)
          refine ew_aload_n (t := 30) dX4_sheet_29 rfl rfl rfl ?_
          refine ew_get (t := 33) (j := 38) (v := .ref 59) fcX4 mc.1 (Nat.le_of_ble_eq_true rfl) q1059 rfl dX4_sheet_30 rfl ?_
          refine ew_iload_n (t := 34) dX4_sheet_33 rfl rfl rfl ?_
          refine ew_iload_n (t := 35) dX4_sheet_34 rfl rfl rfl ?_
          refine ew_iast (t := 36) (j := t) (N := 4) (h' := (hov h [(59, IA 4 (upd (F 59) t lane))])) (mI mc 59 rfl) (vp_in_nI (by omega) (by omega)) (nI_clamp (by omega)) dX4_sheet_35 (hov_up0) rfl ?_
          refine ew_aload_n (t := 37) dX4_sheet_36 rfl rfl rfl ?_
          refine ew_get (t := 40) (j := 39) (v := .ref 60) fcX4 mc.1 (Nat.le_of_ble_eq_true rfl) q1060 rfl dX4_sheet_37 rfl ?_
          refine ew_iload_n (t := 41) dX4_sheet_40 rfl rfl rfl ?_
          refine ew_iload_n (t := 42) dX4_sheet_41 rfl rfl rfl ?_
          refine ew_iast (t := 43) (j := t) (N := 4) (h' := (hov h [(59, IA 4 (upd (F 59) t lane)), (60, IA 4 (upd (F 60) t nn))])) (mI mc 60 rfl) (vp_in_nI (by omega) (by omega)) (nI_clamp (by omega)) dX4_sheet_42 (hov_up rfl) rfl ?_
          refine ew_ic0 (t := 44) dX4_sheet_43 rfl ?_
          refine ew_istore (t := 46) (L' := [some (.ref 33), some (.int (nI t)), some (.int lane), some (.int nn), some (.int 0)]) dX4_sheet_44 (Nat.le_of_ble_eq_true rfl) rfl rfl ?_
          refine EW.heap (h' := hov (hov h [(59, IA 4 (upd (F 59) t lane)), (60, IA 4 (upd (F 60) t nn))]) [(61, IA 64 (F 61))]) (hov_same (h := (hov h [(59, IA 4 (upd (F 59) t lane)), (60, IA 4 (upd (F 60) t nn))])) (show (hov h [(59, IA 4 (upd (F 59) t lane)), (60, IA 4 (upd (F 60) t nn))]) 61 = some (IA 64 (F 61)) from mI mc 61 rfl)).symm ?_
          refine lp_sheet (h := (hov h [(59, IA 4 (upd (F 59) t lane)), (60, IA 4 (upd (F 60) t nn))])) (t := t) mc.1 (by omega) ?_ 16 0 (by omega)
          unfold shtP
          rw [if_neg c_4, if_neg c_11, if_pos c_17, if_pos c_23, nI_clamp (n := t) (by omega)]
          exact OpR.ov (MC_I (c := 61) rfl (l := []) (MC_I (c := 59) rfl (MC_I (c := 60) rfl (l := []) mc))) (fun k hk => (hov_fr 33 63 rfl k hk).trans (hov_fr 33 63 rfl k hk))
        · refine ew_bipush (t := 28) (v := (-14)) dX4_sheet_26 (by decide) rfl ?_
          exact ew_iret rfl dX4_sheet_28 (Nat.le_refl _) (Nat.le_refl _) (by unfold shtP; rw [if_neg c_4, if_neg c_11, if_pos c_17, if_neg c_23]; exact OpR.same mc)
      · refine ew_icm1 (t := 21) dX4_sheet_20 rfl ?_
        exact ew_iret rfl dX4_sheet_21 (Nat.le_refl _) (Nat.le_refl _) (by unfold shtP; rw [if_neg c_4, if_neg c_11, if_neg c_17]; exact OpR.same mc)
