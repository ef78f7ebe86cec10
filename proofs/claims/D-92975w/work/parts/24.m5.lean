/-! the reference: asTold, begins, heavy -/
set_option maxRecDepth 100000
def heavyI (t : Nat) (sl rg : Int32) : Int32 := (match t with | 0 => 32 | 1 => 8 | _ => 2) / (if sl ≤ 0 then 1 else 2) * rg
set_option maxHeartbeats 4000000 in
theorem am_asTold {l : Launch} {G : GW} {h : AH} {n : Nat} {s : Nat → Int32} {al : Int64} (m33 : h 33 = some (MO s al)) : AM l G yX4_asTold cX4_asTold 1 none 0 0 0 [.ref 33] h n (Qv (hov h [(33, MO (upd (upd (upd s 22 0) 23 0) 24 0) al)]) n) := by
  refine AM.of (L := [some (.ref 33)]) (by decide) (Nat.le_of_ble_eq_true rfl) rfl ?_
  refine ew_aload_n (t := 1) dX4_asTold_0 rfl rfl rfl ?_
  refine ew_ic0 (t := 2) dX4_asTold_1 rfl ?_
  refine ew_put (t := 5) (j := 22) (fs' := MOf (upd s 22 0) al) (h' := (hov h [(33, OB 4 (MOf (upd s 22 0) al))])) fcX4 m33 (Nat.le_of_ble_eq_true rfl) rfl q1043 rfl rfl (Nat.le_of_ble_eq_true rfl) rfl dX4_asTold_2 (hov_up0) rfl ?_
  refine ew_aload_n (t := 6) dX4_asTold_5 rfl rfl rfl ?_
  refine ew_ic0 (t := 7) dX4_asTold_6 rfl ?_
  refine ew_put (t := 10) (j := 23) (fs' := MOf (upd (upd s 22 0) 23 0) al) (h' := (hov h [(33, OB 4 (MOf (upd (upd s 22 0) 23 0) al))])) fcX4 rfl (Nat.le_of_ble_eq_true rfl) rfl q1044 (by decide) (by decide) (Nat.le_of_ble_eq_true rfl) rfl dX4_asTold_7 (hov_up rfl) rfl ?_
  refine ew_aload_n (t := 11) dX4_asTold_10 rfl rfl rfl ?_
  refine ew_ic0 (t := 12) dX4_asTold_11 rfl ?_
  refine ew_put (t := 15) (j := 24) (fs' := MOf (upd (upd (upd s 22 0) 23 0) 24 0) al) (h' := (hov h [(33, OB 4 (MOf (upd (upd (upd s 22 0) 23 0) 24 0) al))])) fcX4 rfl (Nat.le_of_ble_eq_true rfl) rfl q1045 (by decide) (by decide) (Nat.le_of_ble_eq_true rfl) rfl dX4_asTold_12 (hov_up rfl) rfl ?_
  exact ew_vret rfl dX4_asTold_15 (Nat.le_refl _) (Nat.le_refl _) ⟨rfl, rfl, rfl⟩
set_option maxHeartbeats 4000000 in
theorem am_begins {l : Launch} {G : GW} {h : AH} {n : Nat} {s : Nat → Int32} {al : Int64} {F34 CD E TA SA FA RA : Nat → Int32} (m33 : h 33 = some (MO s al)) (m34 : h 34 = some (IA 8 F34)) (m44 : h 44 = some (IA 7 CD)) (m45 : h 45 = some (IA 7 E)) (m48 : h 48 = some (IA 7 TA)) (m49 : h 49 = some (IA 7 SA)) (m50 : h 50 = some (IA 7 FA)) (m51 : h 51 = some (IA 7 RA)) : AM l G yX4_begins cX4_begins 1 none 0 0 0 [.ref 33] h n (Qv (hov h [(33, MO (upd s 21 0) al), (44, IA 7 (upd CD 0 (-1))), (45, IA 7 (upd E 0 (F34 1))), (48, IA 7 (upd TA 0 0)), (49, IA 7 (upd SA 0 0)), (50, IA 7 (upd FA 0 0)), (51, IA 7 (upd RA 0 1))]) n) := by
  refine AM.of (L := [some (.ref 33)]) (by decide) (Nat.le_of_ble_eq_true rfl) rfl ?_
  refine ew_aload_n (t := 1) dX4_begins_0 rfl rfl rfl ?_
  refine ew_ic0 (t := 2) dX4_begins_1 rfl ?_
  refine ew_put (t := 5) (j := 21) (fs' := MOf (upd s 21 0) al) (h' := (hov h [(33, OB 4 (MOf (upd s 21 0) al))])) fcX4 m33 (Nat.le_of_ble_eq_true rfl) rfl q1042 rfl rfl (Nat.le_of_ble_eq_true rfl) rfl dX4_begins_2 (hov_up0) rfl ?_
  refine ew_aload_n (t := 6) dX4_begins_5 rfl rfl rfl ?_
  refine ew_get (t := 9) (j := 13) (v := .ref 44) fcX4 rfl (Nat.le_of_ble_eq_true rfl) q1034 rfl dX4_begins_6 rfl ?_
  refine ew_ic0 (t := 10) dX4_begins_9 rfl ?_
  refine ew_icm1 (t := 11) dX4_begins_10 rfl ?_
  refine ew_iast (t := 12) (j := 0) (N := 7) (h' := (hov h [(33, OB 4 (MOf (upd s 21 0) al)), (44, IA 7 (upd CD 0 (-1)))])) m44 (vpI (by decide)) (by decide) dX4_begins_11 (hov_up rfl) rfl ?_
  refine ew_aload_n (t := 13) dX4_begins_12 rfl rfl rfl ?_
  refine ew_get (t := 16) (j := 14) (v := .ref 45) fcX4 rfl (Nat.le_of_ble_eq_true rfl) q1035 rfl dX4_begins_13 rfl ?_
  refine ew_ic0 (t := 17) dX4_begins_16 rfl ?_
  refine ew_aload_n (t := 18) dX4_begins_17 rfl rfl rfl ?_
  refine ew_get (t := 21) (j := 0) (v := .ref 34) fcX4 rfl (Nat.le_of_ble_eq_true rfl) q1021 rfl dX4_begins_18 rfl ?_
  refine ew_ic1 (t := 22) dX4_begins_21 rfl ?_
  refine ew_iald (t := 23) (j := 1) (N := 8) m34 (vpI (by decide)) (by decide) dX4_begins_22 rfl ?_
  refine ew_iast (t := 24) (j := 0) (N := 7) (h' := (hov h [(33, OB 4 (MOf (upd s 21 0) al)), (44, IA 7 (upd CD 0 (-1))), (45, IA 7 (upd E 0 (F34 1)))])) m45 (vpI (by decide)) (by decide) dX4_begins_23 (hov_up rfl) rfl ?_
  refine ew_aload_n (t := 25) dX4_begins_24 rfl rfl rfl ?_
  refine ew_get (t := 28) (j := 17) (v := .ref 48) fcX4 rfl (Nat.le_of_ble_eq_true rfl) q1038 rfl dX4_begins_25 rfl ?_
  refine ew_ic0 (t := 29) dX4_begins_28 rfl ?_
  refine ew_ic0 (t := 30) dX4_begins_29 rfl ?_
  refine ew_iast (t := 31) (j := 0) (N := 7) (h' := (hov h [(33, OB 4 (MOf (upd s 21 0) al)), (44, IA 7 (upd CD 0 (-1))), (45, IA 7 (upd E 0 (F34 1))), (48, IA 7 (upd TA 0 0))])) m48 (vpI (by decide)) (by decide) dX4_begins_30 (hov_up rfl) rfl ?_
  refine ew_aload_n (t := 32) dX4_begins_31 rfl rfl rfl ?_
  refine ew_get (t := 35) (j := 18) (v := .ref 49) fcX4 rfl (Nat.le_of_ble_eq_true rfl) q1039 rfl dX4_begins_32 rfl ?_
  refine ew_ic0 (t := 36) dX4_begins_35 rfl ?_
  refine ew_ic0 (t := 37) dX4_begins_36 rfl ?_
  refine ew_iast (t := 38) (j := 0) (N := 7) (h' := (hov h [(33, OB 4 (MOf (upd s 21 0) al)), (44, IA 7 (upd CD 0 (-1))), (45, IA 7 (upd E 0 (F34 1))), (48, IA 7 (upd TA 0 0)), (49, IA 7 (upd SA 0 0))])) m49 (vpI (by decide)) (by decide) dX4_begins_37 (hov_up rfl) rfl ?_
  refine ew_aload_n (t := 39) dX4_begins_38 rfl rfl rfl ?_
  refine ew_get (t := 42) (j := 19) (v := .ref 50) fcX4 rfl (Nat.le_of_ble_eq_true rfl) q1040 rfl dX4_begins_39 rfl ?_
  refine ew_ic0 (t := 43) dX4_begins_42 rfl ?_
  refine ew_ic0 (t := 44) dX4_begins_43 rfl ?_
  refine ew_iast (t := 45) (j := 0) (N := 7) (h' := (hov h [(33, OB 4 (MOf (upd s 21 0) al)), (44, IA 7 (upd CD 0 (-1))), (45, IA 7 (upd E 0 (F34 1))), (48, IA 7 (upd TA 0 0)), (49, IA 7 (upd SA 0 0)), (50, IA 7 (upd FA 0 0))])) m50 (vpI (by decide)) (by decide) dX4_begins_44 (hov_up rfl) rfl ?_
  refine ew_aload_n (t := 46) dX4_begins_45 rfl rfl rfl ?_
  refine ew_get (t := 49) (j := 20) (v := .ref 51) fcX4 rfl (Nat.le_of_ble_eq_true rfl) q1041 rfl dX4_begins_46 rfl ?_
  refine ew_ic0 (t := 50) dX4_begins_49 rfl ?_
  refine ew_ic1 (t := 51) dX4_begins_50 rfl ?_
  refine ew_iast (t := 52) (j := 0) (N := 7) (h' := (hov h [(33, OB 4 (MOf (upd s 21 0) al)), (44, IA 7 (upd CD 0 (-1))), (45, IA 7 (upd E 0 (F34 1))), (48, IA 7 (upd TA 0 0)), (49, IA 7 (upd SA 0 0)), (50, IA 7 (upd FA 0 0)), (51, IA 7 (upd RA 0 1))])) m51 (vpI (by decide)) (by decide) dX4_begins_51 (hov_up rfl) rfl ?_
  exact ew_vret rfl dX4_begins_52 (Nat.le_refl _) (Nat.le_refl _) ⟨rfl, rfl, rfl⟩
set_option maxHeartbeats 4000000 in
theorem am_heavy0 {l : Launch} {G : GW} {h : AH} {n : Nat} {s : Nat → Int32} {al : Int64} {F34 TA SA RA : Nat → Int32} {H : Nat} (m33 : h 33 = some (MO s al)) (m34 : h 34 = some (IA 8 F34)) (m48 : h 48 = some (IA 7 TA)) (m49 : h 49 = some (IA 7 SA)) (m51 : h 51 = some (IA 7 RA)) (hH : F34 2 = nI H) (hH7 : H < 7) (hT : TA H = 0) : AM l G yX4_heavy cX4_heavy 4 (some .int) 0 0 0 [.ref 33] h n (Qi (heavyI 0 (SA H) (RA H)) h n) := by
  refine AM.of (L := [some (.ref 33), none, none, none]) (by decide) (Nat.le_of_ble_eq_true rfl) rfl ?_
  refine ew_aload_n (t := 1) dX4_heavy_0 rfl rfl rfl ?_
  refine ew_get (t := 4) (j := 0) (v := .ref 34) fcX4 m33 (Nat.le_of_ble_eq_true rfl) q1021 rfl dX4_heavy_1 rfl ?_
  refine ew_ic2 (t := 5) dX4_heavy_4 rfl ?_
  refine ew_iald (t := 6) (j := 2) (N := 8) m34 (vpI (by decide)) (by decide) dX4_heavy_5 rfl ?_
  rw [hH]
  refine ew_istore_n (t := 7) (L' := [some (.ref 33), some (.int (nI H)), none, none]) dX4_heavy_6 rfl (Nat.le_of_ble_eq_true rfl) rfl rfl ?_
  refine ew_bipush (t := 9) (v := 32) dX4_heavy_7 (by decide) rfl ?_
  refine ew_istore_n (t := 10) (L' := [some (.ref 33), some (.int (nI H)), some (.int 32), none]) dX4_heavy_9 rfl (Nat.le_of_ble_eq_true rfl) rfl rfl ?_
  refine ew_ic0 (t := 11) dX4_heavy_10 rfl ?_
  refine ew_istore_n (t := 12) (L' := [some (.ref 33), some (.int (nI H)), some (.int 32), some (.int 0)]) dX4_heavy_11 rfl (Nat.le_of_ble_eq_true rfl) rfl rfl ?_
  refine ew_iload_n (t := 13) dX4_heavy_12 rfl rfl rfl ?_
  refine ew_aload_n (t := 14) dX4_heavy_13 rfl rfl rfl ?_
  refine ew_get (t := 17) (j := 17) (v := .ref 48) fcX4 m33 (Nat.le_of_ble_eq_true rfl) q1038 rfl dX4_heavy_14 rfl ?_
  refine ew_iload_n (t := 18) dX4_heavy_17 rfl rfl rfl ?_
  refine ew_iald (t := 19) (j := H) (N := 7) m48 (vp_in_nI (by omega) (by omega)) (nI_clamp (by omega)) dX4_heavy_18 rfl ?_
  rw [hT]
  refine ew_icmp_ge (t := 32) (t2 := 22) dX4_heavy_19 rfl rfl (fun c_19 => ?_) (fun c_19 => ?_)
  · refine ew_iload_n (t := 33) dX4_heavy_32 rfl rfl rfl ?_
    refine ew_aload_n (t := 34) dX4_heavy_33 rfl rfl rfl ?_
    refine ew_get (t := 37) (j := 18) (v := .ref 49) fcX4 m33 (Nat.le_of_ble_eq_true rfl) q1039 rfl dX4_heavy_34 rfl ?_
    refine ew_iload_n (t := 38) dX4_heavy_37 rfl rfl rfl ?_
    refine ew_iald (t := 39) (j := H) (N := 7) m49 (vp_in_nI (by omega) (by omega)) (nI_clamp (by omega)) dX4_heavy_38 rfl ?_
    have J47 : ∀ (j47_0 : Int32), j47_0 = ((if (SA H) ≤ 0 then 1 else 2) : Int32) → EW l G yX4_heavy cX4_heavy 4 (some .int) 0 0 0 (Qi (heavyI 0 (SA H) (RA H)) h n) 0 0 h n 47 [some (.ref 33), some (.int (nI H)), some (.int 32), some (.int 0)] [.int j47_0, .int 32] := by
      intro j47_0 hj47_0
      refine ew_idiv (t := 48) dX4_heavy_47 (by rw [hj47_0]; split <;> decide) rfl ?_
      refine ew_aload_n (t := 49) dX4_heavy_48 rfl rfl rfl ?_
      refine ew_get (t := 52) (j := 20) (v := .ref 51) fcX4 m33 (Nat.le_of_ble_eq_true rfl) q1041 rfl dX4_heavy_49 rfl ?_
      refine ew_iload_n (t := 53) dX4_heavy_52 rfl rfl rfl ?_
      refine ew_iald (t := 54) (j := H) (N := 7) m51 (vp_in_nI (by omega) (by omega)) (nI_clamp (by omega)) dX4_heavy_53 rfl ?_
      refine ew_imul (t := 55) dX4_heavy_54 rfl ?_
      exact ew_iret rfl dX4_heavy_55 (Nat.le_refl _) (Nat.le_refl _) ⟨congrArg (fun z => some (Value.int z)) (by rw [hj47_0]; rfl), rfl, rfl⟩
    refine ew_if_le (t := 46) (t2 := 42) dX4_heavy_39 rfl rfl (fun c_39 => ?_) (fun c_39 => ?_)
    · refine ew_ic1 (t := 47) dX4_heavy_46 rfl ?_
      exact J47 1 (by simp only [if_pos c_39])
    · refine ew_ic2 (t := 43) dX4_heavy_42 rfl ?_
      refine ew_goto (t := 47) dX4_heavy_43 rfl ?_
      exact J47 2 (by simp only [if_neg c_39])
  · exact absurd c_19 (by decide)
set_option maxHeartbeats 4000000 in
theorem am_heavy1 {l : Launch} {G : GW} {h : AH} {n : Nat} {s : Nat → Int32} {al : Int64} {F34 TA SA RA : Nat → Int32} {H : Nat} (m33 : h 33 = some (MO s al)) (m34 : h 34 = some (IA 8 F34)) (m48 : h 48 = some (IA 7 TA)) (m49 : h 49 = some (IA 7 SA)) (m51 : h 51 = some (IA 7 RA)) (hH : F34 2 = nI H) (hH7 : H < 7) (hT : TA H = 1) : AM l G yX4_heavy cX4_heavy 4 (some .int) 0 0 0 [.ref 33] h n (Qi (heavyI 1 (SA H) (RA H)) h n) := by
  refine AM.of (L := [some (.ref 33), none, none, none]) (by decide) (Nat.le_of_ble_eq_true rfl) rfl ?_
  refine ew_aload_n (t := 1) dX4_heavy_0 rfl rfl rfl ?_
  refine ew_get (t := 4) (j := 0) (v := .ref 34) fcX4 m33 (Nat.le_of_ble_eq_true rfl) q1021 rfl dX4_heavy_1 rfl ?_
  refine ew_ic2 (t := 5) dX4_heavy_4 rfl ?_
  refine ew_iald (t := 6) (j := 2) (N := 8) m34 (vpI (by decide)) (by decide) dX4_heavy_5 rfl ?_
  rw [hH]
  refine ew_istore_n (t := 7) (L' := [some (.ref 33), some (.int (nI H)), none, none]) dX4_heavy_6 rfl (Nat.le_of_ble_eq_true rfl) rfl rfl ?_
  refine ew_bipush (t := 9) (v := 32) dX4_heavy_7 (by decide) rfl ?_
  refine ew_istore_n (t := 10) (L' := [some (.ref 33), some (.int (nI H)), some (.int 32), none]) dX4_heavy_9 rfl (Nat.le_of_ble_eq_true rfl) rfl rfl ?_
  refine ew_ic0 (t := 11) dX4_heavy_10 rfl ?_
  refine ew_istore_n (t := 12) (L' := [some (.ref 33), some (.int (nI H)), some (.int 32), some (.int 0)]) dX4_heavy_11 rfl (Nat.le_of_ble_eq_true rfl) rfl rfl ?_
  refine ew_iload_n (t := 13) dX4_heavy_12 rfl rfl rfl ?_
  refine ew_aload_n (t := 14) dX4_heavy_13 rfl rfl rfl ?_
  refine ew_get (t := 17) (j := 17) (v := .ref 48) fcX4 m33 (Nat.le_of_ble_eq_true rfl) q1038 rfl dX4_heavy_14 rfl ?_
  refine ew_iload_n (t := 18) dX4_heavy_17 rfl rfl rfl ?_
  refine ew_iald (t := 19) (j := H) (N := 7) m48 (vp_in_nI (by omega) (by omega)) (nI_clamp (by omega)) dX4_heavy_18 rfl ?_
  rw [hT]
  refine ew_icmp_ge (t := 32) (t2 := 22) dX4_heavy_19 rfl rfl (fun c_19 => ?_) (fun c_19 => ?_)
  · exact absurd c_19 (by decide)
  · refine ew_iload_n (t := 23) dX4_heavy_22 rfl rfl rfl ?_
    refine ew_ic4 (t := 24) dX4_heavy_23 rfl ?_
    refine ew_idiv (t := 25) dX4_heavy_24 (by decide) rfl ?_
    refine ew_istore_n (t := 26) (L' := [some (.ref 33), some (.int (nI H)), some (.int (32 / 4)), some (.int 0)]) dX4_heavy_25 rfl (Nat.le_of_ble_eq_true rfl) rfl rfl ?_
    refine ew_iinc (t := 29) (x := 0) (v := (0 + 1)) (L' := [some (.ref 33), some (.int (nI H)), some (.int (32 / 4)), some (.int (0 + 1))]) dX4_heavy_26 rfl rfl (Nat.le_of_ble_eq_true rfl) rfl rfl ?_
    rw [show (0 + 1 : Int32) = 1 from rfl]
    refine ew_goto (t := 12) dX4_heavy_29 rfl ?_
    refine ew_iload_n (t := 13) dX4_heavy_12 rfl rfl rfl ?_
    refine ew_aload_n (t := 14) dX4_heavy_13 rfl rfl rfl ?_
    refine ew_get (t := 17) (j := 17) (v := .ref 48) fcX4 m33 (Nat.le_of_ble_eq_true rfl) q1038 rfl dX4_heavy_14 rfl ?_
    refine ew_iload_n (t := 18) dX4_heavy_17 rfl rfl rfl ?_
    refine ew_iald (t := 19) (j := H) (N := 7) m48 (vp_in_nI (by omega) (by omega)) (nI_clamp (by omega)) dX4_heavy_18 rfl ?_
    rw [hT]
    refine ew_icmp_ge (t := 32) (t2 := 22) dX4_heavy_19 rfl rfl (fun c_19 => ?_) (fun c_19 => ?_)
    · refine ew_iload_n (t := 33) dX4_heavy_32 rfl rfl rfl ?_
      refine ew_aload_n (t := 34) dX4_heavy_33 rfl rfl rfl ?_
      refine ew_get (t := 37) (j := 18) (v := .ref 49) fcX4 m33 (Nat.le_of_ble_eq_true rfl) q1039 rfl dX4_heavy_34 rfl ?_
      refine ew_iload_n (t := 38) dX4_heavy_37 rfl rfl rfl ?_
      refine ew_iald (t := 39) (j := H) (N := 7) m49 (vp_in_nI (by omega) (by omega)) (nI_clamp (by omega)) dX4_heavy_38 rfl ?_
      have J47 : ∀ (j47_0 : Int32), j47_0 = ((if (SA H) ≤ 0 then 1 else 2) : Int32) → EW l G yX4_heavy cX4_heavy 4 (some .int) 0 0 0 (Qi (heavyI 1 (SA H) (RA H)) h n) 0 0 h n 47 [some (.ref 33), some (.int (nI H)), some (.int (32 / 4)), some (.int 1)] [.int j47_0, .int (32 / 4)] := by
        intro j47_0 hj47_0
        refine ew_idiv (t := 48) dX4_heavy_47 (by rw [hj47_0]; split <;> decide) rfl ?_
        refine ew_aload_n (t := 49) dX4_heavy_48 rfl rfl rfl ?_
        refine ew_get (t := 52) (j := 20) (v := .ref 51) fcX4 m33 (Nat.le_of_ble_eq_true rfl) q1041 rfl dX4_heavy_49 rfl ?_
        refine ew_iload_n (t := 53) dX4_heavy_52 rfl rfl rfl ?_
        refine ew_iald (t := 54) (j := H) (N := 7) m51 (vp_in_nI (by omega) (by omega)) (nI_clamp (by omega)) dX4_heavy_53 rfl ?_
        refine ew_imul (t := 55) dX4_heavy_54 rfl ?_
        exact ew_iret rfl dX4_heavy_55 (Nat.le_refl _) (Nat.le_refl _) ⟨congrArg (fun z => some (Value.int z)) (by rw [hj47_0]; rfl), rfl, rfl⟩
      refine ew_if_le (t := 46) (t2 := 42) dX4_heavy_39 rfl rfl (fun c_39 => ?_) (fun c_39 => ?_)
      · refine ew_ic1 (t := 47) dX4_heavy_46 rfl ?_
        exact J47 1 (by simp only [if_pos c_39])
      · refine ew_ic2 (t := 43) dX4_heavy_42 rfl ?_
        refine ew_goto (t := 47) dX4_heavy_43 rfl ?_
        exact J47 2 (by simp only [if_neg c_39])
    · exact absurd c_19 (by decide)
set_option maxHeartbeats 4000000 in
theorem am_heavy2 {l : Launch} {G : GW} {h : AH} {n : Nat} {s : Nat → Int32} {al : Int64} {F34 TA SA RA : Nat → Int32} {H : Nat} (m33 : h 33 = some (MO s al)) (m34 : h 34 = some (IA 8 F34)) (m48 : h 48 = some (IA 7 TA)) (m49 : h 49 = some (IA 7 SA)) (m51 : h 51 = some (IA 7 RA)) (hH : F34 2 = nI H) (hH7 : H < 7) (hT : TA H = 2) : AM l G yX4_heavy cX4_heavy 4 (some .int) 0 0 0 [.ref 33] h n (Qi (heavyI 2 (SA H) (RA H)) h n) := by
  refine AM.of (L := [some (.ref 33), none, none, none]) (by decide) (Nat.le_of_ble_eq_true rfl) rfl ?_
  refine ew_aload_n (t := 1) dX4_heavy_0 rfl rfl rfl ?_
  refine ew_get (t := 4) (j := 0) (v := .ref 34) fcX4 m33 (Nat.le_of_ble_eq_true rfl) q1021 rfl dX4_heavy_1 rfl ?_
  refine ew_ic2 (t := 5) dX4_heavy_4 rfl ?_
  refine ew_iald (t := 6) (j := 2) (N := 8) m34 (vpI (by decide)) (by decide) dX4_heavy_5 rfl ?_
  rw [hH]
  refine ew_istore_n (t := 7) (L' := [some (.ref 33), some (.int (nI H)), none, none]) dX4_heavy_6 rfl (Nat.le_of_ble_eq_true rfl) rfl rfl ?_
  refine ew_bipush (t := 9) (v := 32) dX4_heavy_7 (by decide) rfl ?_
  refine ew_istore_n (t := 10) (L' := [some (.ref 33), some (.int (nI H)), some (.int 32), none]) dX4_heavy_9 rfl (Nat.le_of_ble_eq_true rfl) rfl rfl ?_
  refine ew_ic0 (t := 11) dX4_heavy_10 rfl ?_
  refine ew_istore_n (t := 12) (L' := [some (.ref 33), some (.int (nI H)), some (.int 32), some (.int 0)]) dX4_heavy_11 rfl (Nat.le_of_ble_eq_true rfl) rfl rfl ?_
  refine ew_iload_n (t := 13) dX4_heavy_12 rfl rfl rfl ?_
  refine ew_aload_n (t := 14) dX4_heavy_13 rfl rfl rfl ?_
  refine ew_get (t := 17) (j := 17) (v := .ref 48) fcX4 m33 (Nat.le_of_ble_eq_true rfl) q1038 rfl dX4_heavy_14 rfl ?_
  refine ew_iload_n (t := 18) dX4_heavy_17 rfl rfl rfl ?_
  refine ew_iald (t := 19) (j := H) (N := 7) m48 (vp_in_nI (by omega) (by omega)) (nI_clamp (by omega)) dX4_heavy_18 rfl ?_
  rw [hT]
  refine ew_icmp_ge (t := 32) (t2 := 22) dX4_heavy_19 rfl rfl (fun c_19 => ?_) (fun c_19 => ?_)
  · exact absurd c_19 (by decide)
  · refine ew_iload_n (t := 23) dX4_heavy_22 rfl rfl rfl ?_
    refine ew_ic4 (t := 24) dX4_heavy_23 rfl ?_
    refine ew_idiv (t := 25) dX4_heavy_24 (by decide) rfl ?_
    refine ew_istore_n (t := 26) (L' := [some (.ref 33), some (.int (nI H)), some (.int (32 / 4)), some (.int 0)]) dX4_heavy_25 rfl (Nat.le_of_ble_eq_true rfl) rfl rfl ?_
    refine ew_iinc (t := 29) (x := 0) (v := (0 + 1)) (L' := [some (.ref 33), some (.int (nI H)), some (.int (32 / 4)), some (.int (0 + 1))]) dX4_heavy_26 rfl rfl (Nat.le_of_ble_eq_true rfl) rfl rfl ?_
    rw [show (0 + 1 : Int32) = 1 from rfl]
    refine ew_goto (t := 12) dX4_heavy_29 rfl ?_
    refine ew_iload_n (t := 13) dX4_heavy_12 rfl rfl rfl ?_
    refine ew_aload_n (t := 14) dX4_heavy_13 rfl rfl rfl ?_
    refine ew_get (t := 17) (j := 17) (v := .ref 48) fcX4 m33 (Nat.le_of_ble_eq_true rfl) q1038 rfl dX4_heavy_14 rfl ?_
    refine ew_iload_n (t := 18) dX4_heavy_17 rfl rfl rfl ?_
    refine ew_iald (t := 19) (j := H) (N := 7) m48 (vp_in_nI (by omega) (by omega)) (nI_clamp (by omega)) dX4_heavy_18 rfl ?_
    rw [hT]
    refine ew_icmp_ge (t := 32) (t2 := 22) dX4_heavy_19 rfl rfl (fun c_19 => ?_) (fun c_19 => ?_)
    · exact absurd c_19 (by decide)
    · refine ew_iload_n (t := 23) dX4_heavy_22 rfl rfl rfl ?_
      refine ew_ic4 (t := 24) dX4_heavy_23 rfl ?_
      refine ew_idiv (t := 25) dX4_heavy_24 (by decide) rfl ?_
      refine ew_istore_n (t := 26) (L' := [some (.ref 33), some (.int (nI H)), some (.int ((32 / 4) / 4)), some (.int 1)]) dX4_heavy_25 rfl (Nat.le_of_ble_eq_true rfl) rfl rfl ?_
      refine ew_iinc (t := 29) (x := 1) (v := (1 + 1)) (L' := [some (.ref 33), some (.int (nI H)), some (.int ((32 / 4) / 4)), some (.int (1 + 1))]) dX4_heavy_26 rfl rfl (Nat.le_of_ble_eq_true rfl) rfl rfl ?_
      rw [show (1 + 1 : Int32) = 2 from rfl]
      refine ew_goto (t := 12) dX4_heavy_29 rfl ?_
      refine ew_iload_n (t := 13) dX4_heavy_12 rfl rfl rfl ?_
      refine ew_aload_n (t := 14) dX4_heavy_13 rfl rfl rfl ?_
      refine ew_get (t := 17) (j := 17) (v := .ref 48) fcX4 m33 (Nat.le_of_ble_eq_true rfl) q1038 rfl dX4_heavy_14 rfl ?_
      refine ew_iload_n (t := 18) dX4_heavy_17 rfl rfl rfl ?_
      refine ew_iald (t := 19) (j := H) (N := 7) m48 (vp_in_nI (by omega) (by omega)) (nI_clamp (by omega)) dX4_heavy_18 rfl ?_
      rw [hT]
      refine ew_icmp_ge (t := 32) (t2 := 22) dX4_heavy_19 rfl rfl (fun c_19 => ?_) (fun c_19 => ?_)
      · refine ew_iload_n (t := 33) dX4_heavy_32 rfl rfl rfl ?_
        refine ew_aload_n (t := 34) dX4_heavy_33 rfl rfl rfl ?_
        refine ew_get (t := 37) (j := 18) (v := .ref 49) fcX4 m33 (Nat.le_of_ble_eq_true rfl) q1039 rfl dX4_heavy_34 rfl ?_
        refine ew_iload_n (t := 38) dX4_heavy_37 rfl rfl rfl ?_
        refine ew_iald (t := 39) (j := H) (N := 7) m49 (vp_in_nI (by omega) (by omega)) (nI_clamp (by omega)) dX4_heavy_38 rfl ?_
        have J47 : ∀ (j47_0 : Int32), j47_0 = ((if (SA H) ≤ 0 then 1 else 2) : Int32) → EW l G yX4_heavy cX4_heavy 4 (some .int) 0 0 0 (Qi (heavyI 2 (SA H) (RA H)) h n) 0 0 h n 47 [some (.ref 33), some (.int (nI H)), some (.int ((32 / 4) / 4)), some (.int 2)] [.int j47_0, .int ((32 / 4) / 4)] := by
          intro j47_0 hj47_0
          refine ew_idiv (t := 48) dX4_heavy_47 (by rw [hj47_0]; split <;> decide) rfl ?_
          refine ew_aload_n (t := 49) dX4_heavy_48 rfl rfl rfl ?_
          refine ew_get (t := 52) (j := 20) (v := .ref 51) fcX4 m33 (Nat.le_of_ble_eq_true rfl) q1041 rfl dX4_heavy_49 rfl ?_
          refine ew_iload_n (t := 53) dX4_heavy_52 rfl rfl rfl ?_
          refine ew_iald (t := 54) (j := H) (N := 7) m51 (vp_in_nI (by omega) (by omega)) (nI_clamp (by omega)) dX4_heavy_53 rfl ?_
          refine ew_imul (t := 55) dX4_heavy_54 rfl ?_
          exact ew_iret rfl dX4_heavy_55 (Nat.le_refl _) (Nat.le_refl _) ⟨congrArg (fun z => some (Value.int z)) (by rw [hj47_0]; rfl), rfl, rfl⟩
        refine ew_if_le (t := 46) (t2 := 42) dX4_heavy_39 rfl rfl (fun c_39 => ?_) (fun c_39 => ?_)
        · refine ew_ic1 (t := 47) dX4_heavy_46 rfl ?_
          exact J47 1 (by simp only [if_pos c_39])
        · refine ew_ic2 (t := 43) dX4_heavy_42 rfl ?_
          refine ew_goto (t := 47) dX4_heavy_43 rfl ?_
          exact J47 2 (by simp only [if_neg c_39])
      · exact absurd c_19 (by decide)
theorem am_heavy {l : Launch} {G : GW} {h : AH} {n : Nat} {s : Nat → Int32} {al : Int64} {F34 TA SA RA : Nat → Int32} {H : Nat} (m33 : h 33 = some (MO s al)) (m34 : h 34 = some (IA 8 F34)) (m48 : h 48 = some (IA 7 TA)) (m49 : h 49 = some (IA 7 SA)) (m51 : h 51 = some (IA 7 RA)) (hH : F34 2 = nI H) (hH7 : H < 7) {t : Nat} (ht : t < 3) (hT : TA H = nI t) : AM l G yX4_heavy cX4_heavy 4 (some .int) 0 0 0 [.ref 33] h n (Qi (heavyI t (SA H) (RA H)) h n) := by
  match t, ht, hT with
  | 0, _, hT => exact am_heavy0 m33 m34 m48 m49 m51 hH hH7 hT
  | 1, _, hT => exact am_heavy1 m33 m34 m48 m49 m51 hH hH7 hT
  | 2, _, hT => exact am_heavy2 m33 m34 m48 m49 m51 hH hH7 hT
