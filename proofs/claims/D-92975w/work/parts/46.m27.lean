-- Obj fields dict_keys(['cls', 'fun', 'sname', 'refs', 'extra', 'ups'])
/-! the reference: ops that change what was told -/
set_option maxRecDepth 100000
/-- an answer and what is told now -/
abbrev OR : Type := Int32 × (Nat → Int32) × (Nat → Nat → Int32)
def OpR (h : AH) (n : Nat) (p : OR) : Option Value → AH → Nat → Prop := OpQ p.2.1 p.2.2 h n (.int p.1)
theorem OpR.same {s : Nat → Int32} {al : Int64} {F : Nat → Nat → Int32} {FL : Nat → Int64} {h : AH} {n : Nat} {v : Int32} (mc : MC s al F FL h) : OpR h n (v, s, F) (some (.int v)) h n := OpQ.same mc rfl
theorem OpR.ov {s : Nat → Int32} {al : Int64} {F : Nat → Nat → Int32} {FL : Nat → Int64} {h h' : AH} {n : Nat} {v : Int32} (mc : MC s al F FL h') (fr : frM h h') : OpR h n (v, s, F) (some (.int v)) h' n :=
  ⟨rfl, rfl, fr, s, al, F, FL, mc, keepM.refl⟩
theorem inI_nat {c : Int32} {lo hi : Nat} (h1 : lo ≤ hi) (h2 : hi < 2 ^ 31) (h : inI c (nI lo) (nI hi) = true) : ∃ j, lo ≤ j ∧ j ≤ hi ∧ c = nI j := by
  have h5 := inI_iff.mp h
  have h6 : ¬ c < 0 := fun q => by
    have a := Int32.lt_iff_toInt_lt.mp q
    have b := Int32.le_iff_toInt_le.mp h5.1
    have d := Int32.le_iff_toInt_le.mp (show (0 : Int32) ≤ nI lo from nI_le (a := 0) (by omega) (by omega))
    omega
  obtain ⟨j, hj, rfl⟩ := nI_of h6
  exact ⟨j, (nI_leI (by omega) hj).mp h5.1, (nI_leI hj h2).mp h5.2, rfl⟩
def depP (s : Nat → Int32) (F : Nat → Nat → Int32) (c v : Int32) : OR := if b2i (inI c 0 99) = 0 then (-1, s, F) else if ¬ b2i (inL v.toInt64 1 9) = 0 then (F 39 c.toNatClampNeg, s, va_up F 39 (upd (F 39) c.toNatClampNeg v)) else (-1, s, F)
def celP (s : Nat → Int32) (F : Nat → Nat → Int32) (se c wh v : Int32) : OR := if b2i (inL se.toInt64 0 1) = 0 then (-1, s, F) else if b2i (inI c 0 99) = 0 then (-1, s, F) else if b2i (inL wh.toInt64 0 1) = 0 then (-1, s, F) else if ¬ b2i (inL v.toInt64 0 (if ¬ wh = 0 then 9 else 8)) = 0 then (if ¬ wh = 0 then (F 38 (100 * se + c).toNatClampNeg, s, va_up F 38 (upd (F 38) (100 * se + c).toNatClampNeg v)) else (F 37 (100 * se + c).toNatClampNeg, s, va_up F 37 (upd (F 37) (100 * se + c).toNatClampNeg v))) else (-1, s, F)
def rngP (s : Nat → Int32) (F : Nat → Nat → Int32) (hr wh v : Int32) : OR := if b2i (inL hr.toInt64 1 6) = 0 then (-1, s, F) else if b2i (inL wh.toInt64 0 1) = 0 then (-1, s, F) else if ¬ b2i (inL v.toInt64 (if ¬ wh = 0 then 0 else -1) (if ¬ wh = 0 then 2 else 40)) = 0 then (if ¬ wh = 0 then (100 + F 36 hr.toNatClampNeg, s, va_up F 36 (upd (F 36) hr.toNatClampNeg v)) else (100 + F 35 hr.toNatClampNeg, s, va_up F 35 (upd (F 35) hr.toNatClampNeg v))) else (-1, s, F)
def setM (w : Int32) : Int32 := if 2 ≤ w then (if ¬ w = 2 then (if ¬ w = 3 then (if ¬ w = 4 then (if ¬ w = 5 then (if ¬ w = 6 then 8 else 3) else 60) else 1) else 2) else 6) else 99
def setP (s : Nat → Int32) (F : Nat → Nat → Int32) (w v : Int32) : OR := if ¬ b2i (inL w.toInt64 0 7) = 0 then (if ¬ b2i (inL v.toInt64 (if ¬ w = 2 then 0 else 1) (setM w).toInt64) = 0 then (F 34 w.toNatClampNeg, s, va_up F 34 (upd (F 34) w.toNatClampNeg v)) else (-1, s, F)) else (-1, s, F)
def drgP (s : Nat → Int32) (F : Nat → Nat → Int32) (nd : Nat) (c v : Int32) : OR := if b2i (inI c 0 99) = 0 then (-1, s, F) else if ¬ b2i (inL v.toInt64 1 7) = 0 then (if ¬ nI nd = 4 then (nI nd, upd s 27 (nI (nd + 1)), va_up (va_up F 54 (upd (F 54) nd v)) 53 (upd (F 53) nd c)) else (-3, s, F)) else (-1, s, F)
def clrP (s : Nat → Int32) (F : Nat → Nat → Int32) : OR := (s 25 + s 27, upd (upd s 25 0) 27 0, F)
theorem ovI {h : AH} {a : Nat} {c : AC} (hl : (Nat.ble 33 a && Nat.blt a 63) = true) : frM h (hov h [(a, c)]) := hov_fr 33 63 (by simp only [List.all_cons, List.all_nil, hl]; rfl)

set_option maxHeartbeats 4000000 in
theorem mc_depth {l : Launch} {G : GW} {h : AH} {n : Nat} {s : Nat → Int32} {al : Int64} {F : Nat → Nat → Int32} {FL : Nat → Int64} (mc : MC s al F FL h) (c v : Int32) : AM l G yX4_depth cX4_depth 4 (some .int) 2 0 0 [.ref 33, .int c, .int v] h n (OpR h n (depP s F c v)) := by
  refine AM.of (L := [some (.ref 33), some (.int c), some (.int v), none]) (by decide) (Nat.le_of_ble_eq_true rfl) rfl ?_
  refine ew_iload_n (t := 1) dX4_depth_0 rfl rfl rfl ?_
  refine ew_callS (t := 4) (As := [_]) (am_isCell  _) (lw_S q1160 q1161 q60 q1162) naX4_isCell dX4_depth_1 rfl (Nat.le_of_ble_eq_true rfl) (Nat.le_of_ble_eq_true rfl) (Nat.le_refl _) (Nat.le_refl _) (Nat.le_of_ble_eq_true rfl) rfl (qi ?_)
  refine ew_if_eq (t := 19) (t2 := 7) dX4_depth_4 rfl rfl (fun c_4 => ?_) (fun c_4 => ?_)
  · refine ew_icm1 (t := 20) dX4_depth_19 rfl ?_
    exact ew_iret rfl dX4_depth_20 (Nat.le_refl _) (Nat.le_refl _) (by unfold depP; rw [if_pos c_4]; exact OpR.same mc)
  · refine ew_iload_n (t := 8) dX4_depth_7 rfl rfl rfl ?_
    refine ew_i2l (t := 9) dX4_depth_8 rfl ?_
    refine ew_lc1 (t := 10) dX4_depth_9 rfl ?_
    refine ew_ldc2 (t := 13) (v := 9) dX4_depth_10 q1206 rfl ?_
    refine ew_callS (t := 16) (As := [_, _, _]) (am_in _ _ _) (lw_S q1153 q1154 q60 q1155) naX4_in dX4_depth_13 rfl (Nat.le_of_ble_eq_true rfl) (Nat.le_of_ble_eq_true rfl) (Nat.le_refl _) (Nat.le_refl _) (Nat.le_of_ble_eq_true rfl) rfl (qi ?_)
    refine ew_if_ne (t := 21) (t2 := 19) dX4_depth_16 rfl rfl (fun c_16 => ?_) (fun c_16 => ?_)
    · obtain ⟨j, hj0, hj, rfl⟩ := inI_nat (c := c) (lo := 0) (hi := 99) (by decide) (by decide) (b2i_1.mp c_4)
      refine ew_aload_n (t := 22) dX4_depth_21 rfl rfl rfl ?_
      refine ew_get (t := 25) (j := 5) (v := .ref 39) fcX4 mc.1 (Nat.le_of_ble_eq_true rfl) q1026 rfl dX4_depth_22 rfl ?_
      refine ew_iload_n (t := 26) dX4_depth_25 rfl rfl rfl ?_
      refine ew_iald (t := 27) (j := j) (N := 100) (mI mc 39 rfl) (vp_in_nI (by omega) (by omega)) (nI_clamp (by omega)) dX4_depth_26 rfl ?_
      refine ew_istore_n (t := 28) (L' := [some (.ref 33), some (.int (nI j)), some (.int v), some (.int ((F 39) j))]) dX4_depth_27 rfl (Nat.le_of_ble_eq_true rfl) rfl rfl ?_
      refine ew_aload_n (t := 29) dX4_depth_28 rfl rfl rfl ?_
      refine ew_get (t := 32) (j := 5) (v := .ref 39) fcX4 mc.1 (Nat.le_of_ble_eq_true rfl) q1026 rfl dX4_depth_29 rfl ?_
      refine ew_iload_n (t := 33) dX4_depth_32 rfl rfl rfl ?_
      refine ew_iload_n (t := 34) dX4_depth_33 rfl rfl rfl ?_
      refine ew_iast (t := 35) (j := j) (N := 100) (h' := (hov h [(39, IA 100 (upd (F 39) j v))])) (mI mc 39 rfl) (vp_in_nI (by omega) (by omega)) (nI_clamp (by omega)) dX4_depth_34 (hov_up0) rfl ?_
      refine ew_iload_n (t := 36) dX4_depth_35 rfl rfl rfl ?_
      exact ew_iret rfl dX4_depth_36 (Nat.le_refl _) (Nat.le_refl _) (by unfold depP; rw [if_neg c_4, if_pos c_16, nI_clamp (n := j) (by omega)]; exact OpR.ov (MC_I (c := 39) rfl (l := []) mc) (ovI rfl))
    · refine ew_icm1 (t := 20) dX4_depth_19 rfl ?_
      exact ew_iret rfl dX4_depth_20 (Nat.le_refl _) (Nat.le_refl _) (by unfold depP; rw [if_neg c_4, if_neg (not_not_intro c_16)]; exact OpR.same mc)
set_option maxHeartbeats 4000000 in
theorem mc_cell {l : Launch} {G : GW} {h : AH} {n : Nat} {s : Nat → Int32} {al : Int64} {F : Nat → Nat → Int32} {FL : Nat → Int64} (mc : MC s al F FL h) (se c wh v : Int32) : AM l G yX4_cell cX4_cell 7 (some .int) 2 0 0 [.ref 33, .int se, .int c, .int wh, .int v] h n (OpR h n (celP s F se c wh v)) := by
  refine AM.of (L := [some (.ref 33), some (.int se), some (.int c), some (.int wh), some (.int v), none, none]) (by decide) (Nat.le_of_ble_eq_true rfl) rfl ?_
  refine ew_iload_n (t := 1) dX4_cell_0 rfl rfl rfl ?_
  refine ew_i2l (t := 2) dX4_cell_1 rfl ?_
  refine ew_lc0 (t := 3) dX4_cell_2 rfl ?_
  refine ew_lc1 (t := 4) dX4_cell_3 rfl ?_
  refine ew_callS (t := 7) (As := [_, _, _]) (am_in _ _ _) (lw_S q1153 q1154 q60 q1155) naX4_in dX4_cell_4 rfl (Nat.le_of_ble_eq_true rfl) (Nat.le_of_ble_eq_true rfl) (Nat.le_refl _) (Nat.le_refl _) (Nat.le_of_ble_eq_true rfl) rfl (qi ?_)
  refine ew_if_eq (t := 50) (t2 := 10) dX4_cell_7 rfl rfl (fun c_7 => ?_) (fun c_7 => ?_)
  · refine ew_icm1 (t := 51) dX4_cell_50 rfl ?_
    exact ew_iret rfl dX4_cell_51 (Nat.le_refl _) (Nat.le_refl _) (by unfold celP; rw [if_pos c_7]; exact OpR.same mc)
  · refine ew_iload_n (t := 11) dX4_cell_10 rfl rfl rfl ?_
    refine ew_callS (t := 14) (As := [_]) (am_isCell  _) (lw_S q1160 q1161 q60 q1162) naX4_isCell dX4_cell_11 rfl (Nat.le_of_ble_eq_true rfl) (Nat.le_of_ble_eq_true rfl) (Nat.le_refl _) (Nat.le_refl _) (Nat.le_of_ble_eq_true rfl) rfl (qi ?_)
    refine ew_if_eq (t := 50) (t2 := 17) dX4_cell_14 rfl rfl (fun c_14 => ?_) (fun c_14 => ?_)
    · refine ew_icm1 (t := 51) dX4_cell_50 rfl ?_
      exact ew_iret rfl dX4_cell_51 (Nat.le_refl _) (Nat.le_refl _) (by unfold celP; rw [if_neg c_7, if_pos c_14]; exact OpR.same mc)
    · refine ew_iload_n (t := 18) dX4_cell_17 rfl rfl rfl ?_
      refine ew_i2l (t := 19) dX4_cell_18 rfl ?_
      refine ew_lc0 (t := 20) dX4_cell_19 rfl ?_
      refine ew_lc1 (t := 21) dX4_cell_20 rfl ?_
      refine ew_callS (t := 24) (As := [_, _, _]) (am_in _ _ _) (lw_S q1153 q1154 q60 q1155) naX4_in dX4_cell_21 rfl (Nat.le_of_ble_eq_true rfl) (Nat.le_of_ble_eq_true rfl) (Nat.le_refl _) (Nat.le_refl _) (Nat.le_of_ble_eq_true rfl) rfl (qi ?_)
      refine ew_if_eq (t := 50) (t2 := 27) dX4_cell_24 rfl rfl (fun c_24 => ?_) (fun c_24 => ?_)
      · refine ew_icm1 (t := 51) dX4_cell_50 rfl ?_
        exact ew_iret rfl dX4_cell_51 (Nat.le_refl _) (Nat.le_refl _) (by unfold celP; rw [if_neg c_7, if_neg c_14, if_pos c_24]; exact OpR.same mc)
      · refine ew_iload (t := 29) dX4_cell_27 rfl rfl ?_
        refine ew_i2l (t := 30) dX4_cell_29 rfl ?_
        refine ew_lc0 (t := 31) dX4_cell_30 rfl ?_
        refine ew_iload_n (t := 32) dX4_cell_31 rfl rfl rfl ?_
        have J44 : ∀ (j44_0 : Int64), j44_0 = ((if ¬ wh = 0 then 9 else 8) : Int64) → EW l G yX4_cell cX4_cell 7 (some .int) 2 0 0 (OpR h n (celP s F se c wh v)) 0 0 h n 44 [some (.ref 33), some (.int se), some (.int c), some (.int wh), some (.int v), none, none] [.long j44_0, .long 0, .long v.toInt64] := by
          intro j44_0 hj44_0
          subst hj44_0
          refine ew_callS (t := 47) (As := [_, _, _]) (am_in _ _ _) (lw_S q1153 q1154 q60 q1155) naX4_in dX4_cell_44 rfl (Nat.le_of_ble_eq_true rfl) (Nat.le_of_ble_eq_true rfl) (Nat.le_refl _) (Nat.le_refl _) (Nat.le_of_ble_eq_true rfl) rfl (qi ?_)
          refine ew_if_ne (t := 52) (t2 := 50) dX4_cell_47 rfl rfl (fun c_47 => ?_) (fun c_47 => ?_)
          · obtain ⟨q, hq0, hq, rfl⟩ := inI_nat (c := se) (lo := 0) (hi := 1) (by decide) (by decide) ((inL_I se 0 1).symm.trans (b2i_1.mp c_7))
            obtain ⟨j, hj0, hj, rfl⟩ := inI_nat (c := c) (lo := 0) (hi := 99) (by decide) (by decide) (b2i_1.mp c_14)
            refine ew_bipush (t := 54) (v := 100) dX4_cell_52 (by decide) rfl ?_
            refine ew_iload_n (t := 55) dX4_cell_54 rfl rfl rfl ?_
            refine ew_imul (t := 56) dX4_cell_55 rfl ?_
            refine ew_iload_n (t := 57) dX4_cell_56 rfl rfl rfl ?_
            refine ew_iadd (t := 58) dX4_cell_57 rfl ?_
            have ei : (100 : Int32) * nI q + nI j = nI (100 * q + j) := by rw [show (100 : Int32) = nI 100 from rfl, pk_mul, nI_add]
            rw [ei]
            refine ew_istore (t := 60) (L' := [some (.ref 33), some (.int (nI q)), some (.int (nI j)), some (.int wh), some (.int v), some (.int (nI (100 * q + j))), none]) dX4_cell_58 (Nat.le_of_ble_eq_true rfl) rfl rfl ?_
            refine ew_iload_n (t := 61) dX4_cell_60 rfl rfl rfl ?_
            have J81 : ∀ (j81_0 : Int32), j81_0 = ((if ¬ wh = 0 then ((F 38) (100 * q + j)) else ((F 37) (100 * q + j))) : Int32) → EW l G yX4_cell cX4_cell 7 (some .int) 2 0 0 (OpR h n (celP s F (nI q) (nI j) wh v)) 0 0 h n 81 [some (.ref 33), some (.int (nI q)), some (.int (nI j)), some (.int wh), some (.int v), some (.int (nI (100 * q + j))), none] [.int j81_0] := by
              intro j81_0 hj81_0
              refine ew_istore (t := 83) (L' := [some (.ref 33), some (.int (nI q)), some (.int (nI j)), some (.int wh), some (.int v), some (.int (nI (100 * q + j))), some (.int j81_0)]) dX4_cell_81 (Nat.le_of_ble_eq_true rfl) rfl rfl ?_
              refine ew_iload_n (t := 84) dX4_cell_83 rfl rfl rfl ?_
              refine ew_if_ne (t := 99) (t2 := 87) dX4_cell_84 rfl rfl (fun c_84 => ?_) (fun c_84 => ?_)
              · refine ew_aload_n (t := 100) dX4_cell_99 rfl rfl rfl ?_
                refine ew_get (t := 103) (j := 4) (v := .ref 38) fcX4 mc.1 (Nat.le_of_ble_eq_true rfl) q1025 rfl dX4_cell_100 rfl ?_
                refine ew_iload (t := 105) dX4_cell_103 rfl rfl ?_
                refine ew_iload (t := 107) dX4_cell_105 rfl rfl ?_
                refine ew_iast (t := 108) (j := (100 * q + j)) (N := 200) (h' := (hov h [(38, IA 200 (upd (F 38) (100 * q + j) v))])) (mI mc 38 rfl) (vp_in_nI (by omega) (by omega)) (nI_clamp (by omega)) dX4_cell_107 (hov_up0) rfl ?_
                refine ew_iload (t := 110) dX4_cell_108 rfl rfl ?_
                exact ew_iret rfl dX4_cell_110 (Nat.le_refl _) (Nat.le_refl _) (by unfold celP; rw [if_neg c_7, if_neg c_14, if_neg c_24, if_pos c_47, hj81_0, ei, nI_clamp (n := 100 * q + j) (by omega), if_pos c_84, if_pos c_84]; exact OpR.ov (MC_I (c := 38) rfl (l := []) mc) (ovI rfl))
              · refine ew_aload_n (t := 88) dX4_cell_87 rfl rfl rfl ?_
                refine ew_get (t := 91) (j := 3) (v := .ref 37) fcX4 mc.1 (Nat.le_of_ble_eq_true rfl) q1024 rfl dX4_cell_88 rfl ?_
                refine ew_iload (t := 93) dX4_cell_91 rfl rfl ?_
                refine ew_iload (t := 95) dX4_cell_93 rfl rfl ?_
                refine ew_iast (t := 96) (j := (100 * q + j)) (N := 200) (h' := (hov h [(37, IA 200 (upd (F 37) (100 * q + j) v))])) (mI mc 37 rfl) (vp_in_nI (by omega) (by omega)) (nI_clamp (by omega)) dX4_cell_95 (hov_up0) rfl ?_
                refine ew_goto (t := 108) dX4_cell_96 rfl ?_
                refine ew_iload (t := 110) dX4_cell_108 rfl rfl ?_
                exact ew_iret rfl dX4_cell_110 (Nat.le_refl _) (Nat.le_refl _) (by unfold celP; rw [if_neg c_7, if_neg c_14, if_neg c_24, if_pos c_47, hj81_0, ei, nI_clamp (n := 100 * q + j) (by omega), if_neg (not_not_intro c_84), if_neg (not_not_intro c_84)]; exact OpR.ov (MC_I (c := 37) rfl (l := []) mc) (ovI rfl))
            refine ew_if_ne (t := 74) (t2 := 64) dX4_cell_61 rfl rfl (fun c_61 => ?_) (fun c_61 => ?_)
            · refine ew_aload_n (t := 75) dX4_cell_74 rfl rfl rfl ?_
              refine ew_get (t := 78) (j := 4) (v := .ref 38) fcX4 mc.1 (Nat.le_of_ble_eq_true rfl) q1025 rfl dX4_cell_75 rfl ?_
              refine ew_iload (t := 80) dX4_cell_78 rfl rfl ?_
              refine ew_iald (t := 81) (j := (100 * q + j)) (N := 200) (mI mc 38 rfl) (vp_in_nI (by omega) (by omega)) (nI_clamp (by omega)) dX4_cell_80 rfl ?_
              exact J81 ((F 38) (100 * q + j)) (by simp only [if_pos c_61])
            · refine ew_aload_n (t := 65) dX4_cell_64 rfl rfl rfl ?_
              refine ew_get (t := 68) (j := 3) (v := .ref 37) fcX4 mc.1 (Nat.le_of_ble_eq_true rfl) q1024 rfl dX4_cell_65 rfl ?_
              refine ew_iload (t := 70) dX4_cell_68 rfl rfl ?_
              refine ew_iald (t := 71) (j := (100 * q + j)) (N := 200) (mI mc 37 rfl) (vp_in_nI (by omega) (by omega)) (nI_clamp (by omega)) dX4_cell_70 rfl ?_
              refine ew_goto (t := 81) dX4_cell_71 rfl ?_
              exact J81 ((F 37) (100 * q + j)) (by simp only [if_neg (not_not_intro c_61)])
          · refine ew_icm1 (t := 51) dX4_cell_50 rfl ?_
            exact ew_iret rfl dX4_cell_51 (Nat.le_refl _) (Nat.le_refl _) (by unfold celP; rw [if_neg c_7, if_neg c_14, if_neg c_24, if_neg (not_not_intro c_47)]; exact OpR.same mc)
        refine ew_if_ne (t := 41) (t2 := 35) dX4_cell_32 rfl rfl (fun c_32 => ?_) (fun c_32 => ?_)
        · refine ew_ldc2 (t := 44) (v := 9) dX4_cell_41 q1206 rfl ?_
          exact J44 9 (by simp only [if_pos c_32])
        · refine ew_ldc2 (t := 38) (v := 8) dX4_cell_35 q1180 rfl ?_
          refine ew_goto (t := 44) dX4_cell_38 rfl ?_
          exact J44 8 (by simp only [if_neg (not_not_intro c_32)])
set_option maxHeartbeats 4000000 in
theorem mc_ring {l : Launch} {G : GW} {h : AH} {n : Nat} {s : Nat → Int32} {al : Int64} {F : Nat → Nat → Int32} {FL : Nat → Int64} (mc : MC s al F FL h) (hr wh v : Int32) : AM l G yX4_ring cX4_ring 5 (some .int) 2 0 0 [.ref 33, .int hr, .int wh, .int v] h n (OpR h n (rngP s F hr wh v)) := by
  refine AM.of (L := [some (.ref 33), some (.int hr), some (.int wh), some (.int v), none]) (by decide) (Nat.le_of_ble_eq_true rfl) rfl ?_
  refine ew_iload_n (t := 1) dX4_ring_0 rfl rfl rfl ?_
  refine ew_i2l (t := 2) dX4_ring_1 rfl ?_
  refine ew_lc1 (t := 3) dX4_ring_2 rfl ?_
  refine ew_ldc2 (t := 6) (v := 6) dX4_ring_3 q1172 rfl ?_
  refine ew_callS (t := 9) (As := [_, _, _]) (am_in _ _ _) (lw_S q1153 q1154 q60 q1155) naX4_in dX4_ring_6 rfl (Nat.le_of_ble_eq_true rfl) (Nat.le_of_ble_eq_true rfl) (Nat.le_refl _) (Nat.le_refl _) (Nat.le_of_ble_eq_true rfl) rfl (qi ?_)
  refine ew_if_eq (t := 54) (t2 := 12) dX4_ring_9 rfl rfl (fun c_9 => ?_) (fun c_9 => ?_)
  · refine ew_icm1 (t := 55) dX4_ring_54 rfl ?_
    exact ew_iret rfl dX4_ring_55 (Nat.le_refl _) (Nat.le_refl _) (by unfold rngP; rw [if_pos c_9]; exact OpR.same mc)
  · refine ew_iload_n (t := 13) dX4_ring_12 rfl rfl rfl ?_
    refine ew_i2l (t := 14) dX4_ring_13 rfl ?_
    refine ew_lc0 (t := 15) dX4_ring_14 rfl ?_
    refine ew_lc1 (t := 16) dX4_ring_15 rfl ?_
    refine ew_callS (t := 19) (As := [_, _, _]) (am_in _ _ _) (lw_S q1153 q1154 q60 q1155) naX4_in dX4_ring_16 rfl (Nat.le_of_ble_eq_true rfl) (Nat.le_of_ble_eq_true rfl) (Nat.le_refl _) (Nat.le_refl _) (Nat.le_of_ble_eq_true rfl) rfl (qi ?_)
    refine ew_if_eq (t := 54) (t2 := 22) dX4_ring_19 rfl rfl (fun c_19 => ?_) (fun c_19 => ?_)
    · refine ew_icm1 (t := 55) dX4_ring_54 rfl ?_
      exact ew_iret rfl dX4_ring_55 (Nat.le_refl _) (Nat.le_refl _) (by unfold rngP; rw [if_neg c_9, if_pos c_19]; exact OpR.same mc)
    · refine ew_iload_n (t := 23) dX4_ring_22 rfl rfl rfl ?_
      refine ew_i2l (t := 24) dX4_ring_23 rfl ?_
      refine ew_iload_n (t := 25) dX4_ring_24 rfl rfl rfl ?_
      have J35 : ∀ (j35_0 : Int64), j35_0 = ((if ¬ wh = 0 then 0 else (-1)) : Int64) → EW l G yX4_ring cX4_ring 5 (some .int) 2 0 0 (OpR h n (rngP s F hr wh v)) 0 0 h n 35 [some (.ref 33), some (.int hr), some (.int wh), some (.int v), none] [.long j35_0, .long v.toInt64] := by
        intro j35_0 hj35_0
        subst hj35_0
        refine ew_iload_n (t := 36) dX4_ring_35 rfl rfl rfl ?_
        have J48 : ∀ (j48_0 : Int64), j48_0 = ((if ¬ wh = 0 then 2 else 40) : Int64) → EW l G yX4_ring cX4_ring 5 (some .int) 2 0 0 (OpR h n (rngP s F hr wh v)) 0 0 h n 48 [some (.ref 33), some (.int hr), some (.int wh), some (.int v), none] [.long j48_0, .long (if ¬ wh = 0 then 0 else -1), .long v.toInt64] := by
          intro j48_0 hj48_0
          subst hj48_0
          refine ew_callS (t := 51) (As := [_, _, _]) (am_in _ _ _) (lw_S q1153 q1154 q60 q1155) naX4_in dX4_ring_48 rfl (Nat.le_of_ble_eq_true rfl) (Nat.le_of_ble_eq_true rfl) (Nat.le_refl _) (Nat.le_refl _) (Nat.le_of_ble_eq_true rfl) rfl (qi ?_)
          refine ew_if_ne (t := 56) (t2 := 54) dX4_ring_51 rfl rfl (fun c_51 => ?_) (fun c_51 => ?_)
          · obtain ⟨j, hj0, hj, rfl⟩ := inI_nat (c := hr) (lo := 1) (hi := 6) (by decide) (by decide) ((inL_I hr 1 6).symm.trans (b2i_1.mp c_9))
            refine ew_iload_n (t := 57) dX4_ring_56 rfl rfl rfl ?_
            have J75 : ∀ (j75_0 : Int32), j75_0 = ((if ¬ wh = 0 then ((F 36) j) else ((F 35) j)) : Int32) → EW l G yX4_ring cX4_ring 5 (some .int) 2 0 0 (OpR h n (rngP s F (nI j) wh v)) 0 0 h n 75 [some (.ref 33), some (.int (nI j)), some (.int wh), some (.int v), none] [.int j75_0] := by
              intro j75_0 hj75_0
              refine ew_istore (t := 77) (L' := [some (.ref 33), some (.int (nI j)), some (.int wh), some (.int v), some (.int j75_0)]) dX4_ring_75 (Nat.le_of_ble_eq_true rfl) rfl rfl ?_
              refine ew_iload_n (t := 78) dX4_ring_77 rfl rfl rfl ?_
              refine ew_if_ne (t := 91) (t2 := 81) dX4_ring_78 rfl rfl (fun c_78 => ?_) (fun c_78 => ?_)
              · refine ew_aload_n (t := 92) dX4_ring_91 rfl rfl rfl ?_
                refine ew_get (t := 95) (j := 2) (v := .ref 36) fcX4 mc.1 (Nat.le_of_ble_eq_true rfl) q1023 rfl dX4_ring_92 rfl ?_
                refine ew_iload_n (t := 96) dX4_ring_95 rfl rfl rfl ?_
                refine ew_iload_n (t := 97) dX4_ring_96 rfl rfl rfl ?_
                refine ew_iast (t := 98) (j := j) (N := 7) (h' := (hov h [(36, IA 7 (upd (F 36) j v))])) (mI mc 36 rfl) (vp_in_nI (by omega) (by omega)) (nI_clamp (by omega)) dX4_ring_97 (hov_up0) rfl ?_
                refine ew_bipush (t := 100) (v := 100) dX4_ring_98 (by decide) rfl ?_
                refine ew_iload (t := 102) dX4_ring_100 rfl rfl ?_
                refine ew_iadd (t := 103) dX4_ring_102 rfl ?_
                exact ew_iret rfl dX4_ring_103 (Nat.le_refl _) (Nat.le_refl _) (by unfold rngP; rw [if_neg c_9, if_neg c_19, if_pos c_51, hj75_0, nI_clamp (n := j) (by omega), if_pos c_78, if_pos c_78]; exact OpR.ov (MC_I (c := 36) rfl (l := []) mc) (ovI rfl))
              · refine ew_aload_n (t := 82) dX4_ring_81 rfl rfl rfl ?_
                refine ew_get (t := 85) (j := 1) (v := .ref 35) fcX4 mc.1 (Nat.le_of_ble_eq_true rfl) q1022 rfl dX4_ring_82 rfl ?_
                refine ew_iload_n (t := 86) dX4_ring_85 rfl rfl rfl ?_
                refine ew_iload_n (t := 87) dX4_ring_86 rfl rfl rfl ?_
                refine ew_iast (t := 88) (j := j) (N := 7) (h' := (hov h [(35, IA 7 (upd (F 35) j v))])) (mI mc 35 rfl) (vp_in_nI (by omega) (by omega)) (nI_clamp (by omega)) dX4_ring_87 (hov_up0) rfl ?_
                refine ew_goto (t := 98) dX4_ring_88 rfl ?_
                refine ew_bipush (t := 100) (v := 100) dX4_ring_98 (by decide) rfl ?_
                refine ew_iload (t := 102) dX4_ring_100 rfl rfl ?_
                refine ew_iadd (t := 103) dX4_ring_102 rfl ?_
                exact ew_iret rfl dX4_ring_103 (Nat.le_refl _) (Nat.le_refl _) (by unfold rngP; rw [if_neg c_9, if_neg c_19, if_pos c_51, hj75_0, nI_clamp (n := j) (by omega), if_neg (not_not_intro c_78), if_neg (not_not_intro c_78)]; exact OpR.ov (MC_I (c := 35) rfl (l := []) mc) (ovI rfl))
            refine ew_if_ne (t := 69) (t2 := 60) dX4_ring_57 rfl rfl (fun c_57 => ?_) (fun c_57 => ?_)
            · refine ew_aload_n (t := 70) dX4_ring_69 rfl rfl rfl ?_
              refine ew_get (t := 73) (j := 2) (v := .ref 36) fcX4 mc.1 (Nat.le_of_ble_eq_true rfl) q1023 rfl dX4_ring_70 rfl ?_
              refine ew_iload_n (t := 74) dX4_ring_73 rfl rfl rfl ?_
              refine ew_iald (t := 75) (j := j) (N := 7) (mI mc 36 rfl) (vp_in_nI (by omega) (by omega)) (nI_clamp (by omega)) dX4_ring_74 rfl ?_
              exact J75 ((F 36) j) (by simp only [if_pos c_57])
            · refine ew_aload_n (t := 61) dX4_ring_60 rfl rfl rfl ?_
              refine ew_get (t := 64) (j := 1) (v := .ref 35) fcX4 mc.1 (Nat.le_of_ble_eq_true rfl) q1022 rfl dX4_ring_61 rfl ?_
              refine ew_iload_n (t := 65) dX4_ring_64 rfl rfl rfl ?_
              refine ew_iald (t := 66) (j := j) (N := 7) (mI mc 35 rfl) (vp_in_nI (by omega) (by omega)) (nI_clamp (by omega)) dX4_ring_65 rfl ?_
              refine ew_goto (t := 75) dX4_ring_66 rfl ?_
              exact J75 ((F 35) j) (by simp only [if_neg (not_not_intro c_57)])
          · refine ew_icm1 (t := 55) dX4_ring_54 rfl ?_
            exact ew_iret rfl dX4_ring_55 (Nat.le_refl _) (Nat.le_refl _) (by unfold rngP; rw [if_neg c_9, if_neg c_19, if_neg (not_not_intro c_51)]; exact OpR.same mc)
        refine ew_if_ne (t := 45) (t2 := 39) dX4_ring_36 rfl rfl (fun c_36 => ?_) (fun c_36 => ?_)
        · refine ew_ldc2 (t := 48) (v := 2) dX4_ring_45 q1175 rfl ?_
          exact J48 2 (by simp only [if_pos c_36])
        · refine ew_ldc2 (t := 42) (v := 40) dX4_ring_39 q1174 rfl ?_
          refine ew_goto (t := 48) dX4_ring_42 rfl ?_
          exact J48 40 (by simp only [if_neg (not_not_intro c_36)])
      refine ew_if_ne (t := 34) (t2 := 28) dX4_ring_25 rfl rfl (fun c_25 => ?_) (fun c_25 => ?_)
      · refine ew_lc0 (t := 35) dX4_ring_34 rfl ?_
        exact J35 0 (by simp only [if_pos c_25])
      · refine ew_ldc2 (t := 31) (v := (-1)) dX4_ring_28 q1173 rfl ?_
        refine ew_goto (t := 35) dX4_ring_31 rfl ?_
        exact J35 (-1) (by simp only [if_neg (not_not_intro c_25)])
set_option maxHeartbeats 4000000 in
theorem mc_set {l : Launch} {G : GW} {h : AH} {n : Nat} {s : Nat → Int32} {al : Int64} {F : Nat → Nat → Int32} {FL : Nat → Int64} (mc : MC s al F FL h) (w v : Int32) : AM l G yX4_set cX4_set 5 (some .int) 2 0 0 [.ref 33, .int w, .int v] h n (OpR h n (setP s F w v)) := by
  refine AM.of (L := [some (.ref 33), some (.int w), some (.int v), none, none]) (by decide) (Nat.le_of_ble_eq_true rfl) rfl ?_
  refine ew_iload_n (t := 1) dX4_set_0 rfl rfl rfl ?_
  refine ew_i2l (t := 2) dX4_set_1 rfl ?_
  refine ew_lc0 (t := 3) dX4_set_2 rfl ?_
  refine ew_ldc2 (t := 6) (v := 7) dX4_set_3 q1152 rfl ?_
  refine ew_callS (t := 9) (As := [_, _, _]) (am_in _ _ _) (lw_S q1153 q1154 q60 q1155) naX4_in dX4_set_6 rfl (Nat.le_of_ble_eq_true rfl) (Nat.le_of_ble_eq_true rfl) (Nat.le_refl _) (Nat.le_refl _) (Nat.le_of_ble_eq_true rfl) rfl (qi ?_)
  refine ew_if_ne (t := 14) (t2 := 12) dX4_set_9 rfl rfl (fun c_9 => ?_) (fun c_9 => ?_)
  · refine ew_iload_n (t := 15) dX4_set_14 rfl rfl rfl ?_
    refine ew_ic2 (t := 16) dX4_set_15 rfl ?_
    have J74 : ∀ (j74_0 : Int32), j74_0 = ((if 2 ≤ w then (if ¬ w = 2 then (if ¬ w = 3 then (if ¬ w = 4 then (if ¬ w = 5 then (if ¬ w = 6 then 8 else 3) else 60) else 1) else 2) else 6) else 99) : Int32) → EW l G yX4_set cX4_set 5 (some .int) 2 0 0 (OpR h n (setP s F w v)) 0 0 h n 74 [some (.ref 33), some (.int w), some (.int v), none, none] [.int j74_0] := by
      intro j74_0 hj74_0
      rw [show j74_0 = setM w from hj74_0]
      refine ew_istore_n (t := 75) (L' := [some (.ref 33), some (.int w), some (.int v), some (.int (setM w)), none]) dX4_set_74 rfl (Nat.le_of_ble_eq_true rfl) rfl rfl ?_
      refine ew_iload_n (t := 76) dX4_set_75 rfl rfl rfl ?_
      refine ew_i2l (t := 77) dX4_set_76 rfl ?_
      refine ew_iload_n (t := 78) dX4_set_77 rfl rfl rfl ?_
      refine ew_ic2 (t := 79) dX4_set_78 rfl ?_
      have J87 : ∀ (j87_0 : Int64), j87_0 = ((if ¬ w = 2 then 0 else 1) : Int64) → EW l G yX4_set cX4_set 5 (some .int) 2 0 0 (OpR h n (setP s F w v)) 0 0 h n 87 [some (.ref 33), some (.int w), some (.int v), some (.int (setM w)), none] [.long j87_0, .long v.toInt64] := by
        intro j87_0 hj87_0
        subst hj87_0
        refine ew_iload_n (t := 88) dX4_set_87 rfl rfl rfl ?_
        refine ew_i2l (t := 89) dX4_set_88 rfl ?_
        refine ew_callS (t := 92) (As := [_, _, _]) (am_in _ _ _) (lw_S q1153 q1154 q60 q1155) naX4_in dX4_set_89 rfl (Nat.le_of_ble_eq_true rfl) (Nat.le_of_ble_eq_true rfl) (Nat.le_refl _) (Nat.le_refl _) (Nat.le_of_ble_eq_true rfl) rfl (qi ?_)
        refine ew_if_ne (t := 97) (t2 := 95) dX4_set_92 rfl rfl (fun c_92 => ?_) (fun c_92 => ?_)
        · obtain ⟨j, hj0, hj, rfl⟩ := inI_nat (c := w) (lo := 0) (hi := 7) (by decide) (by decide) ((inL_I w 0 7).symm.trans (b2i_1.mp c_9))
          refine ew_aload_n (t := 98) dX4_set_97 rfl rfl rfl ?_
          refine ew_get (t := 101) (j := 0) (v := .ref 34) fcX4 mc.1 (Nat.le_of_ble_eq_true rfl) q1021 rfl dX4_set_98 rfl ?_
          refine ew_iload_n (t := 102) dX4_set_101 rfl rfl rfl ?_
          refine ew_iald (t := 103) (j := j) (N := 8) (mI mc 34 rfl) (vp_in_nI (by omega) (by omega)) (nI_clamp (by omega)) dX4_set_102 rfl ?_
          refine ew_istore (t := 105) (L' := [some (.ref 33), some (.int (nI j)), some (.int v), some (.int (setM (nI j))), some (.int ((F 34) j))]) dX4_set_103 (Nat.le_of_ble_eq_true rfl) rfl rfl ?_
          refine ew_aload_n (t := 106) dX4_set_105 rfl rfl rfl ?_
          refine ew_get (t := 109) (j := 0) (v := .ref 34) fcX4 mc.1 (Nat.le_of_ble_eq_true rfl) q1021 rfl dX4_set_106 rfl ?_
          refine ew_iload_n (t := 110) dX4_set_109 rfl rfl rfl ?_
          refine ew_iload_n (t := 111) dX4_set_110 rfl rfl rfl ?_
          refine ew_iast (t := 112) (j := j) (N := 8) (h' := (hov h [(34, IA 8 (upd (F 34) j v))])) (mI mc 34 rfl) (vp_in_nI (by omega) (by omega)) (nI_clamp (by omega)) dX4_set_111 (hov_up0) rfl ?_
          refine ew_iload (t := 114) dX4_set_112 rfl rfl ?_
          exact ew_iret rfl dX4_set_114 (Nat.le_refl _) (Nat.le_refl _) (by unfold setP; rw [if_pos c_9, if_pos c_92, nI_clamp (n := j) (by omega)]; exact OpR.ov (MC_I (c := 34) rfl (l := []) mc) (ovI rfl))
        · refine ew_icm1 (t := 96) dX4_set_95 rfl ?_
          exact ew_iret rfl dX4_set_96 (Nat.le_refl _) (Nat.le_refl _) (by unfold setP; rw [if_pos c_9, if_neg (not_not_intro c_92)]; exact OpR.same mc)
      refine ew_icmp_ne (t := 86) (t2 := 82) dX4_set_79 rfl rfl (fun c_79 => ?_) (fun c_79 => ?_)
      · refine ew_lc0 (t := 87) dX4_set_86 rfl ?_
        exact J87 0 (by simp only [if_pos c_79])
      · refine ew_lc1 (t := 83) dX4_set_82 rfl ?_
        refine ew_goto (t := 87) dX4_set_83 rfl ?_
        exact J87 1 (by simp only [if_neg (not_not_intro c_79)])
    refine ew_icmp_ge (t := 24) (t2 := 19) dX4_set_16 rfl rfl (fun c_16 => ?_) (fun c_16 => ?_)
    · refine ew_iload_n (t := 25) dX4_set_24 rfl rfl rfl ?_
      refine ew_ic2 (t := 26) dX4_set_25 rfl ?_
      refine ew_icmp_ne (t := 34) (t2 := 29) dX4_set_26 rfl rfl (fun c_26 => ?_) (fun c_26 => ?_)
      · refine ew_iload_n (t := 35) dX4_set_34 rfl rfl rfl ?_
        refine ew_ic3 (t := 36) dX4_set_35 rfl ?_
        refine ew_icmp_ne (t := 43) (t2 := 39) dX4_set_36 rfl rfl (fun c_36 => ?_) (fun c_36 => ?_)
        · refine ew_iload_n (t := 44) dX4_set_43 rfl rfl rfl ?_
          refine ew_ic4 (t := 45) dX4_set_44 rfl ?_
          refine ew_icmp_ne (t := 52) (t2 := 48) dX4_set_45 rfl rfl (fun c_45 => ?_) (fun c_45 => ?_)
          · refine ew_iload_n (t := 53) dX4_set_52 rfl rfl rfl ?_
            refine ew_ic5 (t := 54) dX4_set_53 rfl ?_
            refine ew_icmp_ne (t := 62) (t2 := 57) dX4_set_54 rfl rfl (fun c_54 => ?_) (fun c_54 => ?_)
            · refine ew_iload_n (t := 63) dX4_set_62 rfl rfl rfl ?_
              refine ew_bipush (t := 65) (v := 6) dX4_set_63 (by decide) rfl ?_
              refine ew_icmp_ne (t := 72) (t2 := 68) dX4_set_65 rfl rfl (fun c_65 => ?_) (fun c_65 => ?_)
              · refine ew_bipush (t := 74) (v := 8) dX4_set_72 (by decide) rfl ?_
                exact J74 8 (by simp only [if_pos c_16, if_pos c_26, if_pos c_36, if_pos c_45, if_pos c_54, if_pos c_65])
              · refine ew_ic3 (t := 69) dX4_set_68 rfl ?_
                refine ew_goto (t := 74) dX4_set_69 rfl ?_
                exact J74 3 (by simp only [if_pos c_16, if_pos c_26, if_pos c_36, if_pos c_45, if_pos c_54, if_neg (not_not_intro c_65)])
            · refine ew_bipush (t := 59) (v := 60) dX4_set_57 (by decide) rfl ?_
              refine ew_goto (t := 74) dX4_set_59 rfl ?_
              exact J74 60 (by simp only [if_pos c_16, if_pos c_26, if_pos c_36, if_pos c_45, if_neg (not_not_intro c_54)])
          · refine ew_ic1 (t := 49) dX4_set_48 rfl ?_
            refine ew_goto (t := 74) dX4_set_49 rfl ?_
            exact J74 1 (by simp only [if_pos c_16, if_pos c_26, if_pos c_36, if_neg (not_not_intro c_45)])
        · refine ew_ic2 (t := 40) dX4_set_39 rfl ?_
          refine ew_goto (t := 74) dX4_set_40 rfl ?_
          exact J74 2 (by simp only [if_pos c_16, if_pos c_26, if_neg (not_not_intro c_36)])
      · refine ew_bipush (t := 31) (v := 6) dX4_set_29 (by decide) rfl ?_
        refine ew_goto (t := 74) dX4_set_31 rfl ?_
        exact J74 6 (by simp only [if_pos c_16, if_neg (not_not_intro c_26)])
    · refine ew_bipush (t := 21) (v := 99) dX4_set_19 (by decide) rfl ?_
      refine ew_goto (t := 74) dX4_set_21 rfl ?_
      exact J74 99 (by simp only [if_neg c_16])
  · refine ew_icm1 (t := 13) dX4_set_12 rfl ?_
    exact ew_iret rfl dX4_set_13 (Nat.le_refl _) (Nat.le_refl _) (by unfold setP; rw [if_neg (not_not_intro c_9)]; exact OpR.same mc)
set_option maxHeartbeats 4000000 in
theorem mc_clear {l : Launch} {G : GW} {h : AH} {n : Nat} {s : Nat → Int32} {al : Int64} {F : Nat → Nat → Int32} {FL : Nat → Int64} (mc : MC s al F FL h) : AM l G yX4_clear cX4_clear 2 (some .int) 2 0 0 [.ref 33] h n (OpR h n (clrP s F)) := by
  refine AM.of (L := [some (.ref 33), none]) (by decide) (Nat.le_of_ble_eq_true rfl) rfl ?_
  refine ew_aload_n (t := 1) dX4_clear_0 rfl rfl rfl ?_
  refine ew_get (t := 4) (j := 25) (v := .int (s 25)) fcX4 mc.1 (Nat.le_of_ble_eq_true rfl) q1046 rfl dX4_clear_1 rfl ?_
  refine ew_aload_n (t := 5) dX4_clear_4 rfl rfl rfl ?_
  refine ew_get (t := 8) (j := 27) (v := .int (s 27)) fcX4 mc.1 (Nat.le_of_ble_eq_true rfl) q1048 rfl dX4_clear_5 rfl ?_
  refine ew_iadd (t := 9) dX4_clear_8 rfl ?_
  refine ew_istore_n (t := 10) (L' := [some (.ref 33), some (.int ((s 25) + (s 27)))]) dX4_clear_9 rfl (Nat.le_of_ble_eq_true rfl) rfl rfl ?_
  refine ew_aload_n (t := 11) dX4_clear_10 rfl rfl rfl ?_
  refine ew_ic0 (t := 12) dX4_clear_11 rfl ?_
  refine ew_put (t := 15) (j := 25) (fs' := MOf (upd s 25 0) al) (h' := (hov h [(33, OB 4 (MOf (upd s 25 0) al))])) fcX4 mc.1 (Nat.le_of_ble_eq_true rfl) rfl q1046 rfl rfl (Nat.le_of_ble_eq_true rfl) rfl dX4_clear_12 (hov_up0) rfl ?_
  refine ew_aload_n (t := 16) dX4_clear_15 rfl rfl rfl ?_
  refine ew_ic0 (t := 17) dX4_clear_16 rfl ?_
  refine ew_put (t := 20) (j := 27) (fs' := MOf (upd (upd s 25 0) 27 0) al) (h' := (hov h [(33, OB 4 (MOf (upd (upd s 25 0) 27 0) al))])) fcX4 rfl (Nat.le_of_ble_eq_true rfl) rfl q1048 rfl rfl (Nat.le_of_ble_eq_true rfl) rfl dX4_clear_17 (hov_up rfl) rfl ?_
  refine ew_iload_n (t := 21) dX4_clear_20 rfl rfl rfl ?_
  exact ew_iret rfl dX4_clear_21 (Nat.le_refl _) (Nat.le_refl _) (OpR.ov (MC_33 (l := []) mc) (ovI rfl))
