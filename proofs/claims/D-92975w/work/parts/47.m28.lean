-- Obj fields dict_keys(['cls', 'fun', 'sname', 'refs', 'extra', 'ups'])
/-! the reference: drag, piece, far, drift, fits -/
set_option maxRecDepth 100000
theorem nI_m1 (k : Nat) : nI (k + 1) - 1 = nI k := by
  rw [← nI_1, Int32.add_sub_cancel]
def pieP (s : Nat → Int32) (F : Nat → Nat → Int32) (np : Nat) (c mo hi ag ne : Int32) : OR := if b2i (inI c 0 99) = 0 then (-1, s, F) else if b2i (inL mo.toInt64 1 24) = 0 then (-1, s, F) else if b2i (inL hi.toInt64 0 1) = 0 then (-1, s, F) else if b2i (inL ag.toInt64 0 mo.toInt64) = 0 then (-1, s, F) else if ¬ b2i (inL ne.toInt64 0 9) = 0 then (if ¬ nI np = 4 then (nI np, upd s 25 (nI (np + 1)), va_up F 52 (upd (upd (upd (upd (upd (F 52) (5 * np) c) (5 * np + 1) mo) (5 * np + 2) hi) (5 * np + 3) ag) (5 * np + 4) ne)) else (-3, s, F)) else (-1, s, F)
def farF (a : Nat) (c : Int32) : Int32 := if b2i (inI c 0 99) = 0 then -1 else nI (awayF a c.toNatClampNeg)
def drfF (F : Nat → Nat → Int32) (c mo hi : Int32) : Int32 := if b2i (inI c 0 99) = 0 then -1 else if b2i (inL mo.toInt64 0 24) = 0 then -1 else if b2i (inL hi.toInt64 0 1) = 0 then -1 else nI (drIt (F 37) (F 34 7) hi c.toNatClampNeg mo.toNatClampNeg)
def ftsF (F : Nat → Nat → Int32) (np : Nat) (p c : Int32) : Int32 := if b2i (inL p.toInt64 0 (nI np - 1).toInt64) = 0 then -1 else if b2i (inI c 0 99) = 0 then -1 else fitF (F 52) (F 37) (F 38) (F 34 7) (5 * p.toNatClampNeg) c.toNatClampNeg
theorem inP {p : Int32} {np : Nat} (hnp : np ≤ 4) (h : ¬ b2i (inL p.toInt64 0 (nI np - 1).toInt64) = 0) : ∃ q, q < np ∧ p = nI q := by
  have h2 := b2i_1.mp h
  rw [show inL p.toInt64 0 (nI np - 1).toInt64 = inI p 0 (nI np - 1) from inL_I p 0 (nI np - 1)] at h2
  cases np with
  | zero =>
    exfalso
    have h3 := inI_iff.mp h2
    have a := Int32.le_iff_toInt_le.mp h3.1
    have b := Int32.le_iff_toInt_le.mp h3.2
    have c : (nI 0 - 1).toInt = -1 := by decide
    have d : (0 : Int32).toInt = 0 := by decide
    omega
  | succ np =>
    rw [nI_m1] at h2
    obtain ⟨j, _, hj, e⟩ := inI_nat (lo := 0) (by omega) (by omega) h2
    exact ⟨j, by omega, e⟩

set_option maxHeartbeats 4000000 in
theorem mc_drag {l : Launch} {G : GW} {h : AH} {n : Nat} {s : Nat → Int32} {al : Int64} {F : Nat → Nat → Int32} {FL : Nat → Int64} (mc : MC s al F FL h) {a H g np nd : Nat} (mk : MKc s F a H g np nd) (c v : Int32) : AM l G yX4_drag cX4_drag 3 (some .int) 2 0 0 [.ref 33, .int c, .int v] h n (OpR h n (drgP s F nd c v)) := by
  refine AM.of (L := [some (.ref 33), some (.int c), some (.int v)]) (by decide) (Nat.le_of_ble_eq_true rfl) rfl ?_
  refine ew_iload_n (t := 1) dX4_drag_0 rfl rfl rfl ?_
  refine ew_callS (t := 4) (As := [_]) (am_isCell  _) (lw_S q1160 q1161 q60 q1162) naX4_isCell dX4_drag_1 rfl (Nat.le_of_ble_eq_true rfl) (Nat.le_of_ble_eq_true rfl) (Nat.le_refl _) (Nat.le_refl _) (Nat.le_of_ble_eq_true rfl) rfl (qi ?_)
  refine ew_if_eq (t := 19) (t2 := 7) dX4_drag_4 rfl rfl (fun c_4 => ?_) (fun c_4 => ?_)
  · refine ew_icm1 (t := 20) dX4_drag_19 rfl ?_
    exact ew_iret rfl dX4_drag_20 (Nat.le_refl _) (Nat.le_refl _) (by unfold drgP; rw [if_pos c_4]; exact OpR.same mc)
  · refine ew_iload_n (t := 8) dX4_drag_7 rfl rfl rfl ?_
    refine ew_i2l (t := 9) dX4_drag_8 rfl ?_
    refine ew_lc1 (t := 10) dX4_drag_9 rfl ?_
    refine ew_ldc2 (t := 13) (v := 7) dX4_drag_10 q1152 rfl ?_
    refine ew_callS (t := 16) (As := [_, _, _]) (am_in _ _ _) (lw_S q1153 q1154 q60 q1155) naX4_in dX4_drag_13 rfl (Nat.le_of_ble_eq_true rfl) (Nat.le_of_ble_eq_true rfl) (Nat.le_refl _) (Nat.le_refl _) (Nat.le_of_ble_eq_true rfl) rfl (qi ?_)
    refine ew_if_ne (t := 21) (t2 := 19) dX4_drag_16 rfl rfl (fun c_16 => ?_) (fun c_16 => ?_)
    · have h27 := mk.2.2.2.2.2.2.2.2.2.2.1
      have hnd := mk.2.2.2.2.2.2.2.2.2.2.2.1
      refine ew_aload_n (t := 22) dX4_drag_21 rfl rfl rfl ?_
      refine ew_get (t := 25) (j := 27) (v := .int (s 27)) fcX4 mc.1 (Nat.le_of_ble_eq_true rfl) q1048 rfl dX4_drag_22 rfl ?_
      rw [h27]
      refine ew_ic4 (t := 26) dX4_drag_25 rfl ?_
      refine ew_icmp_ne (t := 32) (t2 := 29) dX4_drag_26 rfl rfl (fun c_26 => ?_) (fun c_26 => ?_)
      · have hnd4 : nd < 4 := by have : nd ≠ 4 := fun e => c_26 (by rw [e]; rfl); omega
        refine ew_aload_n (t := 33) dX4_drag_32 rfl rfl rfl ?_
        refine ew_get (t := 36) (j := 28) (v := .ref 53) fcX4 mc.1 (Nat.le_of_ble_eq_true rfl) q1049 rfl dX4_drag_33 rfl ?_
        refine ew_aload_n (t := 37) dX4_drag_36 rfl rfl rfl ?_
        refine ew_get (t := 40) (j := 27) (v := .int (s 27)) fcX4 mc.1 (Nat.le_of_ble_eq_true rfl) q1048 rfl dX4_drag_37 rfl ?_
        rw [h27]
        refine ew_iload_n (t := 41) dX4_drag_40 rfl rfl rfl ?_
        refine ew_iast (t := 42) (j := nd) (N := 6) (h' := (hov h [(53, IA 6 (upd (F 53) nd c))])) (mI mc 53 rfl) (vp_in_nI (by omega) (by omega)) (nI_clamp (by omega)) dX4_drag_41 (hov_up0) rfl ?_
        refine ew_aload_n (t := 43) dX4_drag_42 rfl rfl rfl ?_
        refine ew_get (t := 46) (j := 29) (v := .ref 54) fcX4 mc.1 (Nat.le_of_ble_eq_true rfl) q1050 rfl dX4_drag_43 rfl ?_
        refine ew_aload_n (t := 47) dX4_drag_46 rfl rfl rfl ?_
        refine ew_get (t := 50) (j := 27) (v := .int (s 27)) fcX4 mc.1 (Nat.le_of_ble_eq_true rfl) q1048 rfl dX4_drag_47 rfl ?_
        rw [h27]
        refine ew_iload_n (t := 51) dX4_drag_50 rfl rfl rfl ?_
        refine ew_iast (t := 52) (j := nd) (N := 6) (h' := (hov h [(53, IA 6 (upd (F 53) nd c)), (54, IA 6 (upd (F 54) nd v))])) (mI mc 54 rfl) (vp_in_nI (by omega) (by omega)) (nI_clamp (by omega)) dX4_drag_51 (hov_up rfl) rfl ?_
        refine ew_aload_n (t := 53) dX4_drag_52 rfl rfl rfl ?_
        refine ew_dup (t := 54) dX4_drag_53 rfl rfl ?_
        refine ew_get (t := 57) (j := 27) (v := .int (s 27)) fcX4 mc.1 (Nat.le_of_ble_eq_true rfl) q1048 rfl dX4_drag_54 rfl ?_
        rw [h27]
        refine ew_ic1 (t := 58) dX4_drag_57 rfl ?_
        refine ew_iadd (t := 59) dX4_drag_58 rfl ?_
        rw [nI_1]
        refine ew_put (t := 62) (j := 27) (fs' := MOf (upd s 27 (nI (nd + 1))) al) (h' := (hov h [(53, IA 6 (upd (F 53) nd c)), (54, IA 6 (upd (F 54) nd v)), (33, OB 4 (MOf (upd s 27 (nI (nd + 1))) al))])) fcX4 mc.1 (Nat.le_of_ble_eq_true rfl) rfl q1048 rfl rfl (Nat.le_of_ble_eq_true rfl) rfl dX4_drag_59 (hov_up rfl) rfl ?_
        refine ew_aload_n (t := 63) dX4_drag_62 rfl rfl rfl ?_
        refine ew_get (t := 66) (j := 27) (v := .int (nI (nd + 1))) fcX4 rfl (Nat.le_of_ble_eq_true rfl) q1048 rfl dX4_drag_63 rfl ?_
        refine ew_ic1 (t := 67) dX4_drag_66 rfl ?_
        refine ew_isub (t := 68) dX4_drag_67 rfl ?_
        rw [nI_m1]
        exact ew_iret rfl dX4_drag_68 (Nat.le_refl _) (Nat.le_refl _) (by unfold drgP; rw [if_neg c_4, if_pos c_16, if_pos c_26]; exact OpR.ov (MC_I (c := 53) rfl (MC_I (c := 54) rfl (MC_33 (l := []) mc))) (hov_fr 33 63 rfl))
      · refine ew_bipush (t := 31) (v := (-3)) dX4_drag_29 (by decide) rfl ?_
        exact ew_iret rfl dX4_drag_31 (Nat.le_refl _) (Nat.le_refl _) (by unfold drgP; rw [if_neg c_4, if_pos c_16, if_neg (not_not_intro c_26)]; exact OpR.same mc)
    · refine ew_icm1 (t := 20) dX4_drag_19 rfl ?_
      exact ew_iret rfl dX4_drag_20 (Nat.le_refl _) (Nat.le_refl _) (by unfold drgP; rw [if_neg c_4, if_neg (not_not_intro c_16)]; exact OpR.same mc)
set_option maxHeartbeats 4000000 in
theorem mc_piece {l : Launch} {G : GW} {h : AH} {n : Nat} {s : Nat → Int32} {al : Int64} {F : Nat → Nat → Int32} {FL : Nat → Int64} (mc : MC s al F FL h) {a H g np nd : Nat} (mk : MKc s F a H g np nd) (c mo hi ag ne : Int32) : AM l G yX4_piece cX4_piece 7 (some .int) 2 0 0 [.ref 33, .int c, .int mo, .int hi, .int ag, .int ne] h n (OpR h n (pieP s F np c mo hi ag ne)) := by
  refine AM.of (L := [some (.ref 33), some (.int c), some (.int mo), some (.int hi), some (.int ag), some (.int ne), none]) (by decide) (Nat.le_of_ble_eq_true rfl) rfl ?_
  refine ew_iload_n (t := 1) dX4_piece_0 rfl rfl rfl ?_
  refine ew_callS (t := 4) (As := [_]) (am_isCell  _) (lw_S q1160 q1161 q60 q1162) naX4_isCell dX4_piece_1 rfl (Nat.le_of_ble_eq_true rfl) (Nat.le_of_ble_eq_true rfl) (Nat.le_refl _) (Nat.le_refl _) (Nat.le_of_ble_eq_true rfl) rfl (qi ?_)
  refine ew_if_eq (t := 54) (t2 := 7) dX4_piece_4 rfl rfl (fun c_4 => ?_) (fun c_4 => ?_)
  · refine ew_icm1 (t := 55) dX4_piece_54 rfl ?_
    exact ew_iret rfl dX4_piece_55 (Nat.le_refl _) (Nat.le_refl _) (by unfold pieP; rw [if_pos c_4]; exact OpR.same mc)
  · refine ew_iload_n (t := 8) dX4_piece_7 rfl rfl rfl ?_
    refine ew_i2l (t := 9) dX4_piece_8 rfl ?_
    refine ew_lc1 (t := 10) dX4_piece_9 rfl ?_
    refine ew_ldc2 (t := 13) (v := 24) dX4_piece_10 q1273 rfl ?_
    refine ew_callS (t := 16) (As := [_, _, _]) (am_in _ _ _) (lw_S q1153 q1154 q60 q1155) naX4_in dX4_piece_13 rfl (Nat.le_of_ble_eq_true rfl) (Nat.le_of_ble_eq_true rfl) (Nat.le_refl _) (Nat.le_refl _) (Nat.le_of_ble_eq_true rfl) rfl (qi ?_)
    refine ew_if_eq (t := 54) (t2 := 19) dX4_piece_16 rfl rfl (fun c_16 => ?_) (fun c_16 => ?_)
    · refine ew_icm1 (t := 55) dX4_piece_54 rfl ?_
      exact ew_iret rfl dX4_piece_55 (Nat.le_refl _) (Nat.le_refl _) (by unfold pieP; rw [if_neg c_4, if_pos c_16]; exact OpR.same mc)
    · refine ew_iload_n (t := 20) dX4_piece_19 rfl rfl rfl ?_
      refine ew_i2l (t := 21) dX4_piece_20 rfl ?_
      refine ew_lc0 (t := 22) dX4_piece_21 rfl ?_
      refine ew_lc1 (t := 23) dX4_piece_22 rfl ?_
      refine ew_callS (t := 26) (As := [_, _, _]) (am_in _ _ _) (lw_S q1153 q1154 q60 q1155) naX4_in dX4_piece_23 rfl (Nat.le_of_ble_eq_true rfl) (Nat.le_of_ble_eq_true rfl) (Nat.le_refl _) (Nat.le_refl _) (Nat.le_of_ble_eq_true rfl) rfl (qi ?_)
      refine ew_if_eq (t := 54) (t2 := 29) dX4_piece_26 rfl rfl (fun c_26 => ?_) (fun c_26 => ?_)
      · refine ew_icm1 (t := 55) dX4_piece_54 rfl ?_
        exact ew_iret rfl dX4_piece_55 (Nat.le_refl _) (Nat.le_refl _) (by unfold pieP; rw [if_neg c_4, if_neg c_16, if_pos c_26]; exact OpR.same mc)
      · refine ew_iload (t := 31) dX4_piece_29 rfl rfl ?_
        refine ew_i2l (t := 32) dX4_piece_31 rfl ?_
        refine ew_lc0 (t := 33) dX4_piece_32 rfl ?_
        refine ew_iload_n (t := 34) dX4_piece_33 rfl rfl rfl ?_
        refine ew_i2l (t := 35) dX4_piece_34 rfl ?_
        refine ew_callS (t := 38) (As := [_, _, _]) (am_in _ _ _) (lw_S q1153 q1154 q60 q1155) naX4_in dX4_piece_35 rfl (Nat.le_of_ble_eq_true rfl) (Nat.le_of_ble_eq_true rfl) (Nat.le_refl _) (Nat.le_refl _) (Nat.le_of_ble_eq_true rfl) rfl (qi ?_)
        refine ew_if_eq (t := 54) (t2 := 41) dX4_piece_38 rfl rfl (fun c_38 => ?_) (fun c_38 => ?_)
        · refine ew_icm1 (t := 55) dX4_piece_54 rfl ?_
          exact ew_iret rfl dX4_piece_55 (Nat.le_refl _) (Nat.le_refl _) (by unfold pieP; rw [if_neg c_4, if_neg c_16, if_neg c_26, if_pos c_38]; exact OpR.same mc)
        · refine ew_iload (t := 43) dX4_piece_41 rfl rfl ?_
          refine ew_i2l (t := 44) dX4_piece_43 rfl ?_
          refine ew_lc0 (t := 45) dX4_piece_44 rfl ?_
          refine ew_ldc2 (t := 48) (v := 9) dX4_piece_45 q1206 rfl ?_
          refine ew_callS (t := 51) (As := [_, _, _]) (am_in _ _ _) (lw_S q1153 q1154 q60 q1155) naX4_in dX4_piece_48 rfl (Nat.le_of_ble_eq_true rfl) (Nat.le_of_ble_eq_true rfl) (Nat.le_refl _) (Nat.le_refl _) (Nat.le_of_ble_eq_true rfl) rfl (qi ?_)
          refine ew_if_ne (t := 56) (t2 := 54) dX4_piece_51 rfl rfl (fun c_51 => ?_) (fun c_51 => ?_)
          · have h25 := mk.2.2.2.2.2.2.2.2.1
            have hnp := mk.2.2.2.2.2.2.2.2.2.1
            refine ew_aload_n (t := 57) dX4_piece_56 rfl rfl rfl ?_
            refine ew_get (t := 60) (j := 25) (v := .int (s 25)) fcX4 mc.1 (Nat.le_of_ble_eq_true rfl) q1046 rfl dX4_piece_57 rfl ?_
            rw [h25]
            refine ew_ic4 (t := 61) dX4_piece_60 rfl ?_
            refine ew_icmp_ne (t := 67) (t2 := 64) dX4_piece_61 rfl rfl (fun c_61 => ?_) (fun c_61 => ?_)
            · have hnp4 : np < 4 := by have : np ≠ 4 := fun e => c_61 (by rw [e]; rfl); omega
              refine ew_ic5 (t := 68) dX4_piece_67 rfl ?_
              refine ew_aload_n (t := 69) dX4_piece_68 rfl rfl rfl ?_
              refine ew_get (t := 72) (j := 25) (v := .int (s 25)) fcX4 mc.1 (Nat.le_of_ble_eq_true rfl) q1046 rfl dX4_piece_69 rfl ?_
              rw [h25]
              refine ew_imul (t := 73) dX4_piece_72 rfl ?_
              rw [show (5 : Int32) * nI np = nI (5 * np) from pk_mul 5 np]
              refine ew_istore (t := 75) (L' := [some (.ref 33), some (.int c), some (.int mo), some (.int hi), some (.int ag), some (.int ne), some (.int (nI (5 * np)))]) dX4_piece_73 (Nat.le_of_ble_eq_true rfl) rfl rfl ?_
              refine ew_aload_n (t := 76) dX4_piece_75 rfl rfl rfl ?_
              refine ew_get (t := 79) (j := 26) (v := .ref 52) fcX4 mc.1 (Nat.le_of_ble_eq_true rfl) q1047 rfl dX4_piece_76 rfl ?_
              refine ew_iload (t := 81) dX4_piece_79 rfl rfl ?_
              refine ew_iload_n (t := 82) dX4_piece_81 rfl rfl rfl ?_
              refine ew_iast (t := 83) (j := (5 * np)) (N := 20) (h' := (hov h [(52, IA 20 (upd (F 52) (5 * np) c))])) (mI mc 52 rfl) (vp_in_nI (by omega) (by omega)) (nI_clamp (by omega)) dX4_piece_82 (hov_up0) rfl ?_
              refine ew_aload_n (t := 84) dX4_piece_83 rfl rfl rfl ?_
              refine ew_get (t := 87) (j := 26) (v := .ref 52) fcX4 mc.1 (Nat.le_of_ble_eq_true rfl) q1047 rfl dX4_piece_84 rfl ?_
              refine ew_iload (t := 89) dX4_piece_87 rfl rfl ?_
              refine ew_ic1 (t := 90) dX4_piece_89 rfl ?_
              refine ew_iadd (t := 91) dX4_piece_90 rfl ?_
              refine ew_iload_n (t := 92) dX4_piece_91 rfl rfl rfl ?_
              refine ew_iast (t := 93) (j := (5 * np + 1)) (N := 20) (h' := (hov h [(52, IA 20 (upd (upd (F 52) (5 * np) c) (5 * np + 1) mo))])) rfl (by rw [show nI (5 * np) + 1 = nI (5 * np + 1) from nI_add (5 * np) 1]; exact vp_in_nI (by omega) (by omega)) (by rw [show nI (5 * np) + 1 = nI (5 * np + 1) from nI_add (5 * np) 1]; exact nI_clamp (by omega)) dX4_piece_92 (hov_up rfl) rfl ?_
              refine ew_aload_n (t := 94) dX4_piece_93 rfl rfl rfl ?_
              refine ew_get (t := 97) (j := 26) (v := .ref 52) fcX4 mc.1 (Nat.le_of_ble_eq_true rfl) q1047 rfl dX4_piece_94 rfl ?_
              refine ew_iload (t := 99) dX4_piece_97 rfl rfl ?_
              refine ew_ic2 (t := 100) dX4_piece_99 rfl ?_
              refine ew_iadd (t := 101) dX4_piece_100 rfl ?_
              refine ew_iload_n (t := 102) dX4_piece_101 rfl rfl rfl ?_
              refine ew_iast (t := 103) (j := (5 * np + 2)) (N := 20) (h' := (hov h [(52, IA 20 (upd (upd (upd (F 52) (5 * np) c) (5 * np + 1) mo) (5 * np + 2) hi))])) rfl (by rw [show nI (5 * np) + 2 = nI (5 * np + 2) from nI_add (5 * np) 2]; exact vp_in_nI (by omega) (by omega)) (by rw [show nI (5 * np) + 2 = nI (5 * np + 2) from nI_add (5 * np) 2]; exact nI_clamp (by omega)) dX4_piece_102 (hov_up rfl) rfl ?_
              refine ew_aload_n (t := 104) dX4_piece_103 rfl rfl rfl ?_
              refine ew_get (t := 107) (j := 26) (v := .ref 52) fcX4 mc.1 (Nat.le_of_ble_eq_true rfl) q1047 rfl dX4_piece_104 rfl ?_
              refine ew_iload (t := 109) dX4_piece_107 rfl rfl ?_
              refine ew_ic3 (t := 110) dX4_piece_109 rfl ?_
              refine ew_iadd (t := 111) dX4_piece_110 rfl ?_
              refine ew_iload (t := 113) dX4_piece_111 rfl rfl ?_
              refine ew_iast (t := 114) (j := (5 * np + 3)) (N := 20) (h' := (hov h [(52, IA 20 (upd (upd (upd (upd (F 52) (5 * np) c) (5 * np + 1) mo) (5 * np + 2) hi) (5 * np + 3) ag))])) rfl (by rw [show nI (5 * np) + 3 = nI (5 * np + 3) from nI_add (5 * np) 3]; exact vp_in_nI (by omega) (by omega)) (by rw [show nI (5 * np) + 3 = nI (5 * np + 3) from nI_add (5 * np) 3]; exact nI_clamp (by omega)) dX4_piece_113 (hov_up rfl) rfl ?_
              refine ew_aload_n (t := 115) dX4_piece_114 rfl rfl rfl ?_
              refine ew_get (t := 118) (j := 26) (v := .ref 52) fcX4 mc.1 (Nat.le_of_ble_eq_true rfl) q1047 rfl dX4_piece_115 rfl ?_
              refine ew_iload (t := 120) dX4_piece_118 rfl rfl ?_
              refine ew_ic4 (t := 121) dX4_piece_120 rfl ?_
              refine ew_iadd (t := 122) dX4_piece_121 rfl ?_
              refine ew_iload (t := 124) dX4_piece_122 rfl rfl ?_
              refine ew_iast (t := 125) (j := (5 * np + 4)) (N := 20) (h' := (hov h [(52, IA 20 (upd (upd (upd (upd (upd (F 52) (5 * np) c) (5 * np + 1) mo) (5 * np + 2) hi) (5 * np + 3) ag) (5 * np + 4) ne))])) rfl (by rw [show nI (5 * np) + 4 = nI (5 * np + 4) from nI_add (5 * np) 4]; exact vp_in_nI (by omega) (by omega)) (by rw [show nI (5 * np) + 4 = nI (5 * np + 4) from nI_add (5 * np) 4]; exact nI_clamp (by omega)) dX4_piece_124 (hov_up rfl) rfl ?_
              refine ew_aload_n (t := 126) dX4_piece_125 rfl rfl rfl ?_
              refine ew_dup (t := 127) dX4_piece_126 rfl rfl ?_
              refine ew_get (t := 130) (j := 25) (v := .int (s 25)) fcX4 mc.1 (Nat.le_of_ble_eq_true rfl) q1046 rfl dX4_piece_127 rfl ?_
              rw [h25]
              refine ew_ic1 (t := 131) dX4_piece_130 rfl ?_
              refine ew_iadd (t := 132) dX4_piece_131 rfl ?_
              rw [nI_1]
              refine ew_put (t := 135) (j := 25) (fs' := MOf (upd s 25 (nI (np + 1))) al) (h' := (hov h [(52, IA 20 (upd (upd (upd (upd (upd (F 52) (5 * np) c) (5 * np + 1) mo) (5 * np + 2) hi) (5 * np + 3) ag) (5 * np + 4) ne)), (33, OB 4 (MOf (upd s 25 (nI (np + 1))) al))])) fcX4 mc.1 (Nat.le_of_ble_eq_true rfl) rfl q1046 rfl rfl (Nat.le_of_ble_eq_true rfl) rfl dX4_piece_132 (hov_up rfl) rfl ?_
              refine ew_aload_n (t := 136) dX4_piece_135 rfl rfl rfl ?_
              refine ew_get (t := 139) (j := 25) (v := .int (nI (np + 1))) fcX4 rfl (Nat.le_of_ble_eq_true rfl) q1046 rfl dX4_piece_136 rfl ?_
              refine ew_ic1 (t := 140) dX4_piece_139 rfl ?_
              refine ew_isub (t := 141) dX4_piece_140 rfl ?_
              rw [nI_m1]
              exact ew_iret rfl dX4_piece_141 (Nat.le_refl _) (Nat.le_refl _) (by unfold pieP; rw [if_neg c_4, if_neg c_16, if_neg c_26, if_neg c_38, if_pos c_51, if_pos c_61]; exact OpR.ov (MC_I (c := 52) rfl (MC_33 (l := []) mc)) (hov_fr 33 63 rfl))
            · refine ew_bipush (t := 66) (v := (-3)) dX4_piece_64 (by decide) rfl ?_
              exact ew_iret rfl dX4_piece_66 (Nat.le_refl _) (Nat.le_refl _) (by unfold pieP; rw [if_neg c_4, if_neg c_16, if_neg c_26, if_neg c_38, if_pos c_51, if_neg (not_not_intro c_61)]; exact OpR.same mc)
          · refine ew_icm1 (t := 55) dX4_piece_54 rfl ?_
            exact ew_iret rfl dX4_piece_55 (Nat.le_refl _) (Nat.le_refl _) (by unfold pieP; rw [if_neg c_4, if_neg c_16, if_neg c_26, if_neg c_38, if_neg (not_not_intro c_51)]; exact OpR.same mc)
set_option maxHeartbeats 4000000 in
theorem mc_far {l : Launch} {G : GW} {h : AH} {n : Nat} {s : Nat → Int32} {al : Int64} {F : Nat → Nat → Int32} {FL : Nat → Int64} (mc : MC s al F FL h) {a H g np nd : Nat} (mk : MKc s F a H g np nd) (c : Int32) : AM l G yX4_far cX4_far 2 (some .int) 2 0 0 [.ref 33, .int c] h n (OpQ s F h n (.int (farF a c))) := by
  refine AM.of (L := [some (.ref 33), some (.int c)]) (by decide) (Nat.le_of_ble_eq_true rfl) rfl ?_
  refine ew_iload_n (t := 1) dX4_far_0 rfl rfl rfl ?_
  refine ew_callS (t := 4) (As := [_]) (am_isCell  _) (lw_S q1160 q1161 q60 q1162) naX4_isCell dX4_far_1 rfl (Nat.le_of_ble_eq_true rfl) (Nat.le_of_ble_eq_true rfl) (Nat.le_refl _) (Nat.le_refl _) (Nat.le_of_ble_eq_true rfl) rfl (qi ?_)
  refine ew_if_eq (t := 15) (t2 := 7) dX4_far_4 rfl rfl (fun c_4 => ?_) (fun c_4 => ?_)
  · refine ew_icm1 (t := 16) dX4_far_15 rfl ?_
    exact ew_iret rfl dX4_far_16 (Nat.le_refl _) (Nat.le_refl _) (OpQ.same mc (congrArg Value.int (by unfold farF; rw [if_pos c_4])))
  · obtain ⟨j, hj0, hj, rfl⟩ := inI_nat (c := c) (lo := 0) (hi := 99) (by decide) (by decide) (b2i_1.mp c_4)
    refine ew_aload_n (t := 8) dX4_far_7 rfl rfl rfl ?_
    refine ew_iload_n (t := 9) dX4_far_8 rfl rfl rfl ?_
    refine ew_callV (t := 12) (As := [_]) (am_away (h := h) (b := j) mc.1 (mI mc 34 rfl) mk.1 mk.2.1 (by omega)) (fcX4).1 mc.1 (lw_V q1164 q1166 qs29 q60 q1167) rfl naX4_away dX4_far_9 rfl (Nat.le_of_ble_eq_true rfl) (Nat.le_of_ble_eq_true rfl) (Nat.le_refl _) (Nat.le_refl _) (Nat.le_of_ble_eq_true rfl) rfl (qi ?_)
    refine ew_goto (t := 16) dX4_far_12 rfl ?_
    exact ew_iret rfl dX4_far_16 (Nat.le_refl _) (Nat.le_refl _) (OpQ.same mc (congrArg Value.int (by unfold farF; rw [if_neg c_4, nI_clamp (n := j) (by omega)])))
set_option maxHeartbeats 4000000 in
theorem mc_drift {l : Launch} {G : GW} {h : AH} {n : Nat} {s : Nat → Int32} {al : Int64} {F : Nat → Nat → Int32} {FL : Nat → Int64} (mc : MC s al F FL h) (c mo hi : Int32) : AM l G yX4_drift cX4_drift 4 (some .int) 4 0 0 [.ref 33, .int c, .int mo, .int hi] h n (OpQ s F h n (.int (drfF F c mo hi))) := by
  refine AM.of (L := [some (.ref 33), some (.int c), some (.int mo), some (.int hi)]) (by decide) (Nat.le_of_ble_eq_true rfl) rfl ?_
  refine ew_iload_n (t := 1) dX4_drift_0 rfl rfl rfl ?_
  refine ew_callS (t := 4) (As := [_]) (am_isCell  _) (lw_S q1160 q1161 q60 q1162) naX4_isCell dX4_drift_1 rfl (Nat.le_of_ble_eq_true rfl) (Nat.le_of_ble_eq_true rfl) (Nat.le_refl _) (Nat.le_refl _) (Nat.le_of_ble_eq_true rfl) rfl (qi ?_)
  refine ew_if_eq (t := 39) (t2 := 7) dX4_drift_4 rfl rfl (fun c_4 => ?_) (fun c_4 => ?_)
  · refine ew_icm1 (t := 40) dX4_drift_39 rfl ?_
    exact ew_iret rfl dX4_drift_40 (Nat.le_refl _) (Nat.le_refl _) (OpQ.same mc (congrArg Value.int (by unfold drfF; rw [if_pos c_4])))
  · refine ew_iload_n (t := 8) dX4_drift_7 rfl rfl rfl ?_
    refine ew_i2l (t := 9) dX4_drift_8 rfl ?_
    refine ew_lc0 (t := 10) dX4_drift_9 rfl ?_
    refine ew_ldc2 (t := 13) (v := 24) dX4_drift_10 q1273 rfl ?_
    refine ew_callS (t := 16) (As := [_, _, _]) (am_in _ _ _) (lw_S q1153 q1154 q60 q1155) naX4_in dX4_drift_13 rfl (Nat.le_of_ble_eq_true rfl) (Nat.le_of_ble_eq_true rfl) (Nat.le_refl _) (Nat.le_refl _) (Nat.le_of_ble_eq_true rfl) rfl (qi ?_)
    refine ew_if_eq (t := 39) (t2 := 19) dX4_drift_16 rfl rfl (fun c_16 => ?_) (fun c_16 => ?_)
    · refine ew_icm1 (t := 40) dX4_drift_39 rfl ?_
      exact ew_iret rfl dX4_drift_40 (Nat.le_refl _) (Nat.le_refl _) (OpQ.same mc (congrArg Value.int (by unfold drfF; rw [if_neg c_4, if_pos c_16])))
    · refine ew_iload_n (t := 20) dX4_drift_19 rfl rfl rfl ?_
      refine ew_i2l (t := 21) dX4_drift_20 rfl ?_
      refine ew_lc0 (t := 22) dX4_drift_21 rfl ?_
      refine ew_lc1 (t := 23) dX4_drift_22 rfl ?_
      refine ew_callS (t := 26) (As := [_, _, _]) (am_in _ _ _) (lw_S q1153 q1154 q60 q1155) naX4_in dX4_drift_23 rfl (Nat.le_of_ble_eq_true rfl) (Nat.le_of_ble_eq_true rfl) (Nat.le_refl _) (Nat.le_refl _) (Nat.le_of_ble_eq_true rfl) rfl (qi ?_)
      refine ew_if_eq (t := 39) (t2 := 29) dX4_drift_26 rfl rfl (fun c_26 => ?_) (fun c_26 => ?_)
      · refine ew_icm1 (t := 40) dX4_drift_39 rfl ?_
        exact ew_iret rfl dX4_drift_40 (Nat.le_refl _) (Nat.le_refl _) (OpQ.same mc (congrArg Value.int (by unfold drfF; rw [if_neg c_4, if_neg c_16, if_pos c_26])))
      · obtain ⟨j, hj0, hj, rfl⟩ := inI_nat (c := c) (lo := 0) (hi := 99) (by decide) (by decide) (b2i_1.mp c_4)
        obtain ⟨N, hN0, hN, rfl⟩ := inI_nat (c := mo) (lo := 0) (hi := 24) (by decide) (by decide) ((inL_I mo 0 24).symm.trans (b2i_1.mp c_16))
        refine ew_aload_n (t := 30) dX4_drift_29 rfl rfl rfl ?_
        refine ew_iload_n (t := 31) dX4_drift_30 rfl rfl rfl ?_
        refine ew_iload_n (t := 32) dX4_drift_31 rfl rfl rfl ?_
        refine ew_iload_n (t := 33) dX4_drift_32 rfl rfl rfl ?_
        refine ew_callV (t := 36) (As := [_, _, _]) (am_driftTo (h := h) (b := j) (N := N) (hi := hi) mc.1 (mI mc 34 rfl) (mI mc 37 rfl) (by omega) (by omega)) (fcX4).1 mc.1 (lw_V q1278 q1280 qs40 q60 q1281) rfl naX4_driftTo dX4_drift_33 rfl (Nat.le_of_ble_eq_true rfl) (Nat.le_of_ble_eq_true rfl) (Nat.le_refl _) (Nat.le_refl _) (Nat.le_of_ble_eq_true rfl) rfl (qi ?_)
        refine ew_goto (t := 40) dX4_drift_36 rfl ?_
        exact ew_iret rfl dX4_drift_40 (Nat.le_refl _) (Nat.le_refl _) (OpQ.same mc (congrArg Value.int (by unfold drfF; rw [if_neg c_4, if_neg c_16, if_neg c_26, nI_clamp (n := j) (by omega), nI_clamp (n := N) (by omega)])))
set_option maxHeartbeats 4000000 in
theorem mc_fits {l : Launch} {G : GW} {h : AH} {n : Nat} {s : Nat → Int32} {al : Int64} {F : Nat → Nat → Int32} {FL : Nat → Int64} (mc : MC s al F FL h) {a H g np nd : Nat} (mk : MKc s F a H g np nd) (p c : Int32) : AM l G yX4_fits cX4_fits 3 (some .int) 4 0 0 [.ref 33, .int p, .int c] h n (OpQ s F h n (.int (ftsF F np p c))) := by
  refine AM.of (L := [some (.ref 33), some (.int p), some (.int c)]) (by decide) (Nat.le_of_ble_eq_true rfl) rfl ?_
  refine ew_iload_n (t := 1) dX4_fits_0 rfl rfl rfl ?_
  refine ew_i2l (t := 2) dX4_fits_1 rfl ?_
  refine ew_lc0 (t := 3) dX4_fits_2 rfl ?_
  refine ew_aload_n (t := 4) dX4_fits_3 rfl rfl rfl ?_
  refine ew_get (t := 7) (j := 25) (v := .int (s 25)) fcX4 mc.1 (Nat.le_of_ble_eq_true rfl) q1046 rfl dX4_fits_4 rfl ?_
  rw [mk.2.2.2.2.2.2.2.2.1]
  refine ew_ic1 (t := 8) dX4_fits_7 rfl ?_
  refine ew_isub (t := 9) dX4_fits_8 rfl ?_
  refine ew_i2l (t := 10) dX4_fits_9 rfl ?_
  refine ew_callS (t := 13) (As := [_, _, _]) (am_in _ _ _) (lw_S q1153 q1154 q60 q1155) naX4_in dX4_fits_10 rfl (Nat.le_of_ble_eq_true rfl) (Nat.le_of_ble_eq_true rfl) (Nat.le_refl _) (Nat.le_refl _) (Nat.le_of_ble_eq_true rfl) rfl (qi ?_)
  refine ew_if_eq (t := 32) (t2 := 16) dX4_fits_13 rfl rfl (fun c_13 => ?_) (fun c_13 => ?_)
  · refine ew_icm1 (t := 33) dX4_fits_32 rfl ?_
    exact ew_iret rfl dX4_fits_33 (Nat.le_refl _) (Nat.le_refl _) (OpQ.same mc (congrArg Value.int (by unfold ftsF; rw [if_pos c_13])))
  · refine ew_iload_n (t := 17) dX4_fits_16 rfl rfl rfl ?_
    refine ew_callS (t := 20) (As := [_]) (am_isCell  _) (lw_S q1160 q1161 q60 q1162) naX4_isCell dX4_fits_17 rfl (Nat.le_of_ble_eq_true rfl) (Nat.le_of_ble_eq_true rfl) (Nat.le_refl _) (Nat.le_refl _) (Nat.le_of_ble_eq_true rfl) rfl (qi ?_)
    refine ew_if_eq (t := 32) (t2 := 23) dX4_fits_20 rfl rfl (fun c_20 => ?_) (fun c_20 => ?_)
    · refine ew_icm1 (t := 33) dX4_fits_32 rfl ?_
      exact ew_iret rfl dX4_fits_33 (Nat.le_refl _) (Nat.le_refl _) (OpQ.same mc (congrArg Value.int (by unfold ftsF; rw [if_neg c_13, if_pos c_20])))
    · obtain ⟨q, hq, rfl⟩ := inP mk.2.2.2.2.2.2.2.2.2.1 c_13
      obtain ⟨N, hN, eN⟩ := mk.2.2.2.2.2.2.2.2.2.2.2.2 q hq
      have hnp := mk.2.2.2.2.2.2.2.2.2.1
      obtain ⟨j, hj0, hj, rfl⟩ := inI_nat (c := c) (lo := 0) (hi := 99) (by decide) (by decide) (b2i_1.mp c_20)
      refine ew_aload_n (t := 24) dX4_fits_23 rfl rfl rfl ?_
      refine ew_iload_n (t := 25) dX4_fits_24 rfl rfl rfl ?_
      refine ew_iload_n (t := 26) dX4_fits_25 rfl rfl rfl ?_
      refine ew_callV (t := 29) (As := [_, _]) (am_fit (h := h) (q := q) (b := j) (N := N) mc.1 (mI mc 34 rfl) (mI mc 37 rfl) (mI mc 38 rfl) (mI mc 52 rfl) (by omega) (by omega) hN eN) (fcX4).1 mc.1 (lw_V q1290 q1292 qs42 q60 q1293) rfl naX4_fit dX4_fits_26 rfl (Nat.le_of_ble_eq_true rfl) (Nat.le_of_ble_eq_true rfl) (Nat.le_refl _) (Nat.le_refl _) (Nat.le_of_ble_eq_true rfl) rfl (qi ?_)
      refine ew_goto (t := 33) dX4_fits_29 rfl ?_
      exact ew_iret rfl dX4_fits_33 (Nat.le_refl _) (Nat.le_refl _) (OpQ.same mc (congrArg Value.int (by unfold ftsF; rw [if_neg c_13, if_neg c_20, nI_clamp (n := j) (by omega), nI_clamp (n := q) (by omega)])))
