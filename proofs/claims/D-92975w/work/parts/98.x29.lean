-- Obj fields dict_keys(['cls', 'fun', 'sname', 'refs', 'extra', 'ups'])
/-! the component: depth, ring, cell, set -/
set_option maxRecDepth 100000
/-- an answer, and what is told now -/
def XU (h : AH) (n : Nat) (p : OR) : Option Value → AH → Nat → Prop := fun r h' n' => r = some (.int p.1) ∧ n' = n ∧ (∀ k, ¬ (3 ≤ k ∧ k ≤ 8) → h' k = h k) ∧ XT p.2.2 h'
theorem XU.same {h : AH} {n : Nat} {v : Int32} {sm : Nat → Int32} {F : Nat → Nat → Int32} (xt : XT F h) : XU h n (v, sm, F) (some (.int v)) h n := ⟨rfl, rfl, fun _ _ => rfl, xt⟩
theorem XU.u39 {h : AH} {n : Nat} {v : Int32} {sm f : Nat → Int32} {F : Nat → Nat → Int32} (xt : XT F h) : XU h n (v, sm, va_up F 39 f) (some (.int v)) (hov h [(8, BA 100 f)]) n :=
  ⟨rfl, rfl, fun k hk => hv_miss (by omega), ⟨xt.1, xt.2.1, xt.2.2.1, xt.2.2.2.1, xt.2.2.2.2.1, xt.2.2.2.2.2.1, hv_hit⟩⟩
theorem nar_s : ∀ j, j < 10 → vp_nar .byte (nI j) = nI j := by decide +kernel
theorem XU.u37 {h : AH} {n : Nat} {v : Int32} {sm f : Nat → Int32} {F : Nat → Nat → Int32} (xt : XT F h) : XU h n (v, sm, va_up F 37 f) (some (.int v)) (hov h [(6, BA 200 f)]) n :=
  ⟨rfl, rfl, fun k hk => hv_miss (by omega), ⟨xt.1, xt.2.1, xt.2.2.1, xt.2.2.2.1, hv_hit, xt.2.2.2.2.2.1, xt.2.2.2.2.2.2⟩⟩
theorem XU.u38 {h : AH} {n : Nat} {v : Int32} {sm f : Nat → Int32} {F : Nat → Nat → Int32} (xt : XT F h) : XU h n (v, sm, va_up F 38 f) (some (.int v)) (hov h [(7, BA 200 f)]) n :=
  ⟨rfl, rfl, fun k hk => hv_miss (by omega), ⟨xt.1, xt.2.1, xt.2.2.1, xt.2.2.2.1, xt.2.2.2.2.1, hv_hit, xt.2.2.2.2.2.2⟩⟩
theorem XU.u36 {h : AH} {n : Nat} {v : Int32} {sm f : Nat → Int32} {F : Nat → Nat → Int32} (xt : XT F h) : XU h n (v, sm, va_up F 36 f) (some (.int v)) (hov h [(5, IA 7 f)]) n :=
  ⟨rfl, rfl, fun k hk => hv_miss (by omega), ⟨xt.1, xt.2.1, xt.2.2.1, hv_hit, xt.2.2.2.2.1, xt.2.2.2.2.2.1, xt.2.2.2.2.2.2⟩⟩
theorem XU.u35 {h : AH} {n : Nat} {v : Int32} {sm f g : Nat → Int32} {F : Nat → Nat → Int32} (xt : XT F h) (e : g = frX f) : XU h n (v, sm, va_up F 35 f) (some (.int v)) (hov h [(4, IA 7 g)]) n :=
  ⟨rfl, rfl, fun k hk => hv_miss (by omega), ⟨xt.1, xt.2.1, by rw [e]; exact hv_hit, xt.2.2.2.1, xt.2.2.2.2.1, xt.2.2.2.2.2.1, xt.2.2.2.2.2.2⟩⟩
theorem XU.u34 {h : AH} {n : Nat} {v : Int32} {sm f : Nat → Int32} {F : Nat → Nat → Int32} (xt : XT F h) : XU h n (v, sm, va_up F 34 f) (some (.int v)) (hov h [(3, IA 8 f)]) n :=
  ⟨rfl, rfl, fun k hk => hv_miss (by omega), ⟨xt.1, hv_hit, xt.2.2.1, xt.2.2.2.1, xt.2.2.2.2.1, xt.2.2.2.2.2.1, xt.2.2.2.2.2.2⟩⟩
theorem frX_up {f : Nat → Int32} {j : Nat} {v : Int32} : upd (frX f) j (if 0 ≤ v then v else -4) = frX (upd f j v) := by
  funext k
  unfold frX
  by_cases e : k = j
  · subst e
    rw [pk_us, pk_us]
    by_cases c : 0 ≤ v
    · rw [if_pos c, if_neg (Int32.not_lt.mpr c)]
    · rw [if_neg c, if_pos (Int32.not_le.mp c)]
  · rw [pk_un e, pk_un e]
theorem frX_old {f : Nat → Int32} {j : Nat} (h : f j < 0 → f j = -1) : (if 0 ≤ frX f j then 100 + frX f j else 99) = 100 + f j := by
  unfold frX
  by_cases c : f j < 0
  · rw [if_pos c, if_neg (by decide), h c]; rfl
  · rw [if_neg c, if_pos (Int32.not_lt.mp c)]
theorem i8_s : ∀ j, j < 10 → (nI j).toInt8.toInt32 = nI j := by decide +kernel
set_option maxHeartbeats 600000 in
theorem xc_depth {l : Launch} {G : GW} {h : AH} {n : Nat} {s sm : Nat → Int32} {F : Nat → Nat → Int32} (x1 : h 1 = some (XO s)) (xt : XT F h) (c v : Int32) : AM l G yX0_depth cX0_depth 4 (some .int) 2 0 0 [.ref 1, .int c, .int v] h n (XU h n (depP sm F c v)) := by
  refine AM.of (L := [some (.ref 1), some (.int c), some (.int v), none]) (by decide) (Nat.le_of_ble_eq_true rfl) rfl ?_
  refine ew_iload_n (t := 1) dX0_depth_0 rfl rfl rfl ?_
  refine ew_callS (t := 4) (As := [_]) (ax_isCell  _) (lw_S q333 q334 q51 q335) naX0_isCell dX0_depth_1 rfl (Nat.le_of_ble_eq_true rfl) (Nat.le_of_ble_eq_true rfl) (Nat.le_refl _) (Nat.le_refl _) (Nat.le_of_ble_eq_true rfl) rfl (qi ?_)
  refine ew_if_eq (t := 17) (t2 := 7) dX0_depth_4 rfl rfl (fun c_4 => ?_) (fun c_4 => ?_)
  · refine ew_icm1 (t := 18) dX0_depth_17 rfl ?_
    exact ew_iret rfl dX0_depth_18 (Nat.le_refl _) (Nat.le_refl _) (by rw [show depP sm F c v = (-1, sm, F) from if_pos c_4]; exact XU.same xt)
  · refine ew_iload_n (t := 8) dX0_depth_7 rfl rfl rfl ?_
    refine ew_ic1 (t := 9) dX0_depth_8 rfl ?_
    refine ew_bipush (t := 11) (v := 9) dX0_depth_9 (by decide) rfl ?_
    refine ew_callS (t := 14) (As := [_, _, _]) (ax_isIn _ _ _) (lw_S q330 q331 q51 q332) naX0_isIn dX0_depth_11 rfl (Nat.le_of_ble_eq_true rfl) (Nat.le_of_ble_eq_true rfl) (Nat.le_refl _) (Nat.le_refl _) (Nat.le_of_ble_eq_true rfl) rfl (qi ?_)
    refine ew_if_ne (t := 19) (t2 := 17) dX0_depth_14 rfl rfl (fun c_14 => ?_) (fun c_14 => ?_)
    · obtain ⟨j, hj, rfl⟩ := in99 c_4
      obtain ⟨z, -, hz, rfl⟩ := inI_nat (c := v) (lo := 1) (hi := 9) (by omega) (by omega) (b2i_1.mp c_14)
      refine ew_aload_n (t := 20) dX0_depth_19 rfl rfl rfl ?_
      refine ew_get (t := 23) (j := 0) (v := .ref 2) fcX0 x1 (Nat.le_of_ble_eq_true rfl) q255 rfl dX0_depth_20 rfl ?_
      refine ew_getN (t := 26) (j := 5) (v := .ref 8) fcX1 xt.1 (Nat.le_of_ble_eq_true rfl) q138 rfl dX0_depth_23 rfl ?_
      refine ew_iload_n (t := 27) dX0_depth_26 rfl rfl rfl ?_
      refine ew_bald (t := 28) (j := j) (N := 100) xt.2.2.2.2.2.2 (vp_in_nI (by omega) (by omega)) (nI_clamp (by omega)) dX0_depth_27 rfl ?_
      refine ew_istore_n (t := 29) (L' := [some (.ref 1), some (.int (nI j)), some (.int (nI z)), some (.int ((F 39) j))]) dX0_depth_28 rfl (Nat.le_of_ble_eq_true rfl) rfl rfl ?_
      refine ew_aload_n (t := 30) dX0_depth_29 rfl rfl rfl ?_
      refine ew_get (t := 33) (j := 0) (v := .ref 2) fcX0 x1 (Nat.le_of_ble_eq_true rfl) q255 rfl dX0_depth_30 rfl ?_
      refine ew_getN (t := 36) (j := 5) (v := .ref 8) fcX1 xt.1 (Nat.le_of_ble_eq_true rfl) q138 rfl dX0_depth_33 rfl ?_
      refine ew_iload_n (t := 37) dX0_depth_36 rfl rfl rfl ?_
      refine ew_iload_n (t := 38) dX0_depth_37 rfl rfl rfl ?_
      refine ew_i2b (t := 39) dX0_depth_38 rfl ?_
      rw [i8_s z (by omega)]
      refine ew_bast (t := 40) (j := j) (N := 100) (h' := (hov h [(8, BA 100 (upd (F 39) j (vp_nar .byte (nI z))))])) xt.2.2.2.2.2.2 (vp_in_nI (by omega) (by omega)) (nI_clamp (by omega)) dX0_depth_39 hov_up0 rfl ?_
      refine ew_iload_n (t := 41) dX0_depth_40 rfl rfl rfl ?_
      exact ew_iret rfl dX0_depth_41 (Nat.le_refl _) (Nat.le_refl _) (by rw [show depP sm F (nI j) (nI z) = (F 39 j, sm, va_up F 39 (upd (F 39) j (nI z))) from by unfold depP; rw [if_neg c_4, show inL (nI z).toInt64 1 9 = inI (nI z) 1 9 from inL_I (nI z) 1 9, if_pos c_14, nI_clamp (n := j) (by omega)]]; rw [nar_s z (by omega)]; exact XU.u39 xt)
    · refine ew_icm1 (t := 18) dX0_depth_17 rfl ?_
      exact ew_iret rfl dX0_depth_18 (Nat.le_refl _) (Nat.le_refl _) (by rw [show depP sm F c v = (-1, sm, F) from by unfold depP; rw [if_neg c_4, show inL v.toInt64 1 9 = inI v 1 9 from inL_I v 1 9, if_neg (not_not_intro c_14)]]; exact XU.same xt)
set_option maxHeartbeats 600000 in
theorem xc_cell {l : Launch} {G : GW} {h : AH} {n : Nat} {s sm : Nat → Int32} {F : Nat → Nat → Int32} (x1 : h 1 = some (XO s)) (xt : XT F h) (se c wh v : Int32) : AM l G yX0_cell cX0_cell 7 (some .int) 2 0 0 [.ref 1, .int se, .int c, .int wh, .int v] h n (XU h n (celP sm F se c wh v)) := by
  refine AM.of (L := [some (.ref 1), some (.int se), some (.int c), some (.int wh), some (.int v), none, none]) (by decide) (Nat.le_of_ble_eq_true rfl) rfl ?_
  refine ew_iload_n (t := 1) dX0_cell_0 rfl rfl rfl ?_
  refine ew_ic0 (t := 2) dX0_cell_1 rfl ?_
  refine ew_ic1 (t := 3) dX0_cell_2 rfl ?_
  refine ew_callS (t := 6) (As := [_, _, _]) (ax_isIn _ _ _) (lw_S q330 q331 q51 q332) naX0_isIn dX0_cell_3 rfl (Nat.le_of_ble_eq_true rfl) (Nat.le_of_ble_eq_true rfl) (Nat.le_refl _) (Nat.le_refl _) (Nat.le_of_ble_eq_true rfl) rfl (qi ?_)
  refine ew_if_eq (t := 45) (t2 := 9) dX0_cell_6 rfl rfl (fun c_6 => ?_) (fun c_6 => ?_)
  · refine ew_icm1 (t := 46) dX0_cell_45 rfl ?_
    exact ew_iret rfl dX0_cell_46 (Nat.le_refl _) (Nat.le_refl _) (by rw [show celP sm F se c wh v = (-1, sm, F) from by unfold celP; rw [show inL se.toInt64 0 1 = inI se 0 1 from inL_I se 0 1, if_pos c_6]]; exact XU.same xt)
  · refine ew_iload_n (t := 10) dX0_cell_9 rfl rfl rfl ?_
    refine ew_callS (t := 13) (As := [_]) (ax_isCell  _) (lw_S q333 q334 q51 q335) naX0_isCell dX0_cell_10 rfl (Nat.le_of_ble_eq_true rfl) (Nat.le_of_ble_eq_true rfl) (Nat.le_refl _) (Nat.le_refl _) (Nat.le_of_ble_eq_true rfl) rfl (qi ?_)
    refine ew_if_eq (t := 45) (t2 := 16) dX0_cell_13 rfl rfl (fun c_13 => ?_) (fun c_13 => ?_)
    · refine ew_icm1 (t := 46) dX0_cell_45 rfl ?_
      exact ew_iret rfl dX0_cell_46 (Nat.le_refl _) (Nat.le_refl _) (by rw [show celP sm F se c wh v = (-1, sm, F) from by unfold celP; rw [show inL se.toInt64 0 1 = inI se 0 1 from inL_I se 0 1, if_neg c_6, if_pos c_13]]; exact XU.same xt)
    · refine ew_iload_n (t := 17) dX0_cell_16 rfl rfl rfl ?_
      refine ew_ic0 (t := 18) dX0_cell_17 rfl ?_
      refine ew_ic1 (t := 19) dX0_cell_18 rfl ?_
      refine ew_callS (t := 22) (As := [_, _, _]) (ax_isIn _ _ _) (lw_S q330 q331 q51 q332) naX0_isIn dX0_cell_19 rfl (Nat.le_of_ble_eq_true rfl) (Nat.le_of_ble_eq_true rfl) (Nat.le_refl _) (Nat.le_refl _) (Nat.le_of_ble_eq_true rfl) rfl (qi ?_)
      refine ew_if_eq (t := 45) (t2 := 25) dX0_cell_22 rfl rfl (fun c_22 => ?_) (fun c_22 => ?_)
      · refine ew_icm1 (t := 46) dX0_cell_45 rfl ?_
        exact ew_iret rfl dX0_cell_46 (Nat.le_refl _) (Nat.le_refl _) (by rw [show celP sm F se c wh v = (-1, sm, F) from by unfold celP; rw [show inL se.toInt64 0 1 = inI se 0 1 from inL_I se 0 1, if_neg c_6, if_neg c_13, show inL wh.toInt64 0 1 = inI wh 0 1 from inL_I wh 0 1, if_pos c_22]]; exact XU.same xt)
      · refine ew_iload (t := 27) dX0_cell_25 rfl rfl ?_
        refine ew_ic0 (t := 28) dX0_cell_27 rfl ?_
        refine ew_iload_n (t := 29) dX0_cell_28 rfl rfl rfl ?_
        refine ew_if_ne (t := 37) (t2 := 32) dX0_cell_29 rfl rfl (fun c_29 => ?_) (fun c_29 => ?_)
        · refine ew_bipush (t := 39) (v := 9) dX0_cell_37 (by decide) rfl ?_
          refine ew_callS (t := 42) (As := [_, _, _]) (ax_isIn _ _ _) (lw_S q330 q331 q51 q332) naX0_isIn dX0_cell_39 rfl (Nat.le_of_ble_eq_true rfl) (Nat.le_of_ble_eq_true rfl) (Nat.le_refl _) (Nat.le_refl _) (Nat.le_of_ble_eq_true rfl) rfl (qi ?_)
          refine ew_if_ne (t := 47) (t2 := 45) dX0_cell_42 rfl rfl (fun c_42 => ?_) (fun c_42 => ?_)
          · obtain ⟨j, hj, rfl⟩ := in99 c_13
            obtain ⟨q, -, hq, rfl⟩ := inI_nat (c := se) (lo := 0) (hi := 1) (by omega) (by omega) (b2i_1.mp c_6)
            obtain ⟨z, -, hz, rfl⟩ := inI_nat (c := v) (lo := 0) (hi := 9) (by omega) (by omega) (b2i_1.mp c_42)
            have eix : (100 : Int32) * nI q + nI j = nI (100 * q + j) := by rw [show (100 : Int32) = nI 100 from rfl, pk_mul, nI_add]
            refine ew_iload_n (t := 48) dX0_cell_47 rfl rfl rfl ?_
            refine ew_if_ne (t := 61) (t2 := 51) dX0_cell_48 rfl rfl (fun c_48 => ?_) (fun c_48 => ?_)
            · refine ew_aload_n (t := 62) dX0_cell_61 rfl rfl rfl ?_
              refine ew_get (t := 65) (j := 0) (v := .ref 2) fcX0 x1 (Nat.le_of_ble_eq_true rfl) q255 rfl dX0_cell_62 rfl ?_
              refine ew_getN (t := 68) (j := 4) (v := .ref 7) fcX1 xt.1 (Nat.le_of_ble_eq_true rfl) q136 rfl dX0_cell_65 rfl ?_
              refine ew_astore (t := 70) (L' := [some (.ref 1), some (.int (nI q)), some (.int (nI j)), some (.int wh), some (.int (nI z)), some (.ref 7), none]) dX0_cell_68 (Nat.le_of_ble_eq_true rfl) rfl rfl ?_
              refine ew_aload (t := 72) dX0_cell_70 rfl rfl ?_
              refine ew_bipush (t := 74) (v := 100) dX0_cell_72 (by decide) rfl ?_
              refine ew_iload_n (t := 75) dX0_cell_74 rfl rfl rfl ?_
              refine ew_imul (t := 76) dX0_cell_75 rfl ?_
              refine ew_iload_n (t := 77) dX0_cell_76 rfl rfl rfl ?_
              refine ew_iadd (t := 78) dX0_cell_77 rfl ?_
              refine ew_bald (t := 79) (j := (100 * q + j)) (N := 200) xt.2.2.2.2.2.1 (by rw [eix]; exact vp_in_nI (by omega) (by omega)) (by rw [eix]; exact nI_clamp (by omega)) dX0_cell_78 rfl ?_
              refine ew_istore (t := 81) (L' := [some (.ref 1), some (.int (nI q)), some (.int (nI j)), some (.int wh), some (.int (nI z)), some (.ref 7), some (.int ((F 38) (100 * q + j)))]) dX0_cell_79 (Nat.le_of_ble_eq_true rfl) rfl rfl ?_
              refine ew_aload (t := 83) dX0_cell_81 rfl rfl ?_
              refine ew_bipush (t := 85) (v := 100) dX0_cell_83 (by decide) rfl ?_
              refine ew_iload_n (t := 86) dX0_cell_85 rfl rfl rfl ?_
              refine ew_imul (t := 87) dX0_cell_86 rfl ?_
              refine ew_iload_n (t := 88) dX0_cell_87 rfl rfl rfl ?_
              refine ew_iadd (t := 89) dX0_cell_88 rfl ?_
              refine ew_iload (t := 91) dX0_cell_89 rfl rfl ?_
              refine ew_i2b (t := 92) dX0_cell_91 rfl ?_
              rw [i8_s z (by omega)]
              refine ew_bast (t := 93) (j := (100 * q + j)) (N := 200) (h' := (hov h [(7, BA 200 (upd (F 38) (100 * q + j) (vp_nar .byte (nI z))))])) xt.2.2.2.2.2.1 (by rw [eix]; exact vp_in_nI (by omega) (by omega)) (by rw [eix]; exact nI_clamp (by omega)) dX0_cell_92 hov_up0 rfl ?_
              refine ew_iload (t := 95) dX0_cell_93 rfl rfl ?_
              exact ew_iret rfl dX0_cell_95 (Nat.le_refl _) (Nat.le_refl _) (by rw [show celP sm F (nI q) (nI j) wh (nI z) = (F 38 (100 * q + j), sm, va_up F 38 (upd (F 38) (100 * q + j) (nI z))) from by unfold celP; rw [show inL (nI q).toInt64 0 1 = inI (nI q) 0 1 from inL_I (nI q) 0 1, if_neg c_6, if_neg c_13, show inL wh.toInt64 0 1 = inI wh 0 1 from inL_I wh 0 1, if_neg c_22, show (if ¬ wh = 0 then (9 : Int64) else 8) = 9 from if_pos c_29, show inL (nI z).toInt64 0 9 = inI (nI z) 0 9 from inL_I (nI z) 0 9, if_pos c_42, if_pos c_29, eix, nI_clamp (n := 100 * q + j) (by omega)]]; rw [nar_s z (by omega)]; exact XU.u38 xt)
            · exact absurd c_48 c_29
          · refine ew_icm1 (t := 46) dX0_cell_45 rfl ?_
            exact ew_iret rfl dX0_cell_46 (Nat.le_refl _) (Nat.le_refl _) (by rw [show celP sm F se c wh v = (-1, sm, F) from by unfold celP; rw [show inL se.toInt64 0 1 = inI se 0 1 from inL_I se 0 1, if_neg c_6, if_neg c_13, show inL wh.toInt64 0 1 = inI wh 0 1 from inL_I wh 0 1, if_neg c_22, show (if ¬ wh = 0 then (9 : Int64) else 8) = 9 from if_pos c_29, show inL v.toInt64 0 9 = inI v 0 9 from inL_I v 0 9, if_neg (not_not_intro c_42)]]; exact XU.same xt)
        · refine ew_bipush (t := 34) (v := 8) dX0_cell_32 (by decide) rfl ?_
          refine ew_goto (t := 39) dX0_cell_34 rfl ?_
          refine ew_callS (t := 42) (As := [_, _, _]) (ax_isIn _ _ _) (lw_S q330 q331 q51 q332) naX0_isIn dX0_cell_39 rfl (Nat.le_of_ble_eq_true rfl) (Nat.le_of_ble_eq_true rfl) (Nat.le_refl _) (Nat.le_refl _) (Nat.le_of_ble_eq_true rfl) rfl (qi ?_)
          refine ew_if_ne (t := 47) (t2 := 45) dX0_cell_42 rfl rfl (fun c_42 => ?_) (fun c_42 => ?_)
          · obtain ⟨j, hj, rfl⟩ := in99 c_13
            obtain ⟨q, -, hq, rfl⟩ := inI_nat (c := se) (lo := 0) (hi := 1) (by omega) (by omega) (b2i_1.mp c_6)
            obtain ⟨z, -, hz, rfl⟩ := inI_nat (c := v) (lo := 0) (hi := 8) (by omega) (by omega) (b2i_1.mp c_42)
            have eix : (100 : Int32) * nI q + nI j = nI (100 * q + j) := by rw [show (100 : Int32) = nI 100 from rfl, pk_mul, nI_add]
            refine ew_iload_n (t := 48) dX0_cell_47 rfl rfl rfl ?_
            refine ew_if_ne (t := 61) (t2 := 51) dX0_cell_48 rfl rfl (fun c_48 => ?_) (fun c_48 => ?_)
            · exact absurd c_29 c_48
            · refine ew_aload_n (t := 52) dX0_cell_51 rfl rfl rfl ?_
              refine ew_get (t := 55) (j := 0) (v := .ref 2) fcX0 x1 (Nat.le_of_ble_eq_true rfl) q255 rfl dX0_cell_52 rfl ?_
              refine ew_getN (t := 58) (j := 3) (v := .ref 6) fcX1 xt.1 (Nat.le_of_ble_eq_true rfl) q133 rfl dX0_cell_55 rfl ?_
              refine ew_goto (t := 68) dX0_cell_58 rfl ?_
              refine ew_astore (t := 70) (L' := [some (.ref 1), some (.int (nI q)), some (.int (nI j)), some (.int wh), some (.int (nI z)), some (.ref 6), none]) dX0_cell_68 (Nat.le_of_ble_eq_true rfl) rfl rfl ?_
              refine ew_aload (t := 72) dX0_cell_70 rfl rfl ?_
              refine ew_bipush (t := 74) (v := 100) dX0_cell_72 (by decide) rfl ?_
              refine ew_iload_n (t := 75) dX0_cell_74 rfl rfl rfl ?_
              refine ew_imul (t := 76) dX0_cell_75 rfl ?_
              refine ew_iload_n (t := 77) dX0_cell_76 rfl rfl rfl ?_
              refine ew_iadd (t := 78) dX0_cell_77 rfl ?_
              refine ew_bald (t := 79) (j := (100 * q + j)) (N := 200) xt.2.2.2.2.1 (by rw [eix]; exact vp_in_nI (by omega) (by omega)) (by rw [eix]; exact nI_clamp (by omega)) dX0_cell_78 rfl ?_
              refine ew_istore (t := 81) (L' := [some (.ref 1), some (.int (nI q)), some (.int (nI j)), some (.int wh), some (.int (nI z)), some (.ref 6), some (.int ((F 37) (100 * q + j)))]) dX0_cell_79 (Nat.le_of_ble_eq_true rfl) rfl rfl ?_
              refine ew_aload (t := 83) dX0_cell_81 rfl rfl ?_
              refine ew_bipush (t := 85) (v := 100) dX0_cell_83 (by decide) rfl ?_
              refine ew_iload_n (t := 86) dX0_cell_85 rfl rfl rfl ?_
              refine ew_imul (t := 87) dX0_cell_86 rfl ?_
              refine ew_iload_n (t := 88) dX0_cell_87 rfl rfl rfl ?_
              refine ew_iadd (t := 89) dX0_cell_88 rfl ?_
              refine ew_iload (t := 91) dX0_cell_89 rfl rfl ?_
              refine ew_i2b (t := 92) dX0_cell_91 rfl ?_
              rw [i8_s z (by omega)]
              refine ew_bast (t := 93) (j := (100 * q + j)) (N := 200) (h' := (hov h [(6, BA 200 (upd (F 37) (100 * q + j) (vp_nar .byte (nI z))))])) xt.2.2.2.2.1 (by rw [eix]; exact vp_in_nI (by omega) (by omega)) (by rw [eix]; exact nI_clamp (by omega)) dX0_cell_92 hov_up0 rfl ?_
              refine ew_iload (t := 95) dX0_cell_93 rfl rfl ?_
              exact ew_iret rfl dX0_cell_95 (Nat.le_refl _) (Nat.le_refl _) (by rw [show celP sm F (nI q) (nI j) wh (nI z) = (F 37 (100 * q + j), sm, va_up F 37 (upd (F 37) (100 * q + j) (nI z))) from by unfold celP; rw [show inL (nI q).toInt64 0 1 = inI (nI q) 0 1 from inL_I (nI q) 0 1, if_neg c_6, if_neg c_13, show inL wh.toInt64 0 1 = inI wh 0 1 from inL_I wh 0 1, if_neg c_22, show (if ¬ wh = 0 then (9 : Int64) else 8) = 8 from if_neg (not_not_intro c_29), show inL (nI z).toInt64 0 8 = inI (nI z) 0 8 from inL_I (nI z) 0 8, if_pos c_42, if_neg (not_not_intro c_29), eix, nI_clamp (n := 100 * q + j) (by omega)]]; rw [nar_s z (by omega)]; exact XU.u37 xt)
          · refine ew_icm1 (t := 46) dX0_cell_45 rfl ?_
            exact ew_iret rfl dX0_cell_46 (Nat.le_refl _) (Nat.le_refl _) (by rw [show celP sm F se c wh v = (-1, sm, F) from by unfold celP; rw [show inL se.toInt64 0 1 = inI se 0 1 from inL_I se 0 1, if_neg c_6, if_neg c_13, show inL wh.toInt64 0 1 = inI wh 0 1 from inL_I wh 0 1, if_neg c_22, show (if ¬ wh = 0 then (9 : Int64) else 8) = 8 from if_neg (not_not_intro c_29), show inL v.toInt64 0 8 = inI v 0 8 from inL_I v 0 8, if_neg (not_not_intro c_42)]]; exact XU.same xt)
set_option maxHeartbeats 600000 in
theorem xc_ring {l : Launch} {G : GW} {h : AH} {n : Nat} {s sm : Nat → Int32} {F : Nat → Nat → Int32} (x1 : h 1 = some (XO s)) (xt : XT F h) (hR1 : ∀ j, j < 7 → F 35 j < 0 → F 35 j = -1) (hr wh v : Int32) : AM l G yX0_ring cX0_ring 5 (some .int) 2 0 0 [.ref 1, .int hr, .int wh, .int v] h n (XU h n (rngP sm F hr wh v)) := by
  refine AM.of (L := [some (.ref 1), some (.int hr), some (.int wh), some (.int v), none]) (by decide) (Nat.le_of_ble_eq_true rfl) rfl ?_
  refine ew_iload_n (t := 1) dX0_ring_0 rfl rfl rfl ?_
  refine ew_ic1 (t := 2) dX0_ring_1 rfl ?_
  refine ew_bipush (t := 4) (v := 6) dX0_ring_2 (by decide) rfl ?_
  refine ew_callS (t := 7) (As := [_, _, _]) (ax_isIn _ _ _) (lw_S q330 q331 q51 q332) naX0_isIn dX0_ring_4 rfl (Nat.le_of_ble_eq_true rfl) (Nat.le_of_ble_eq_true rfl) (Nat.le_refl _) (Nat.le_refl _) (Nat.le_of_ble_eq_true rfl) rfl (qi ?_)
  refine ew_if_eq (t := 45) (t2 := 10) dX0_ring_7 rfl rfl (fun c_7 => ?_) (fun c_7 => ?_)
  · refine ew_icm1 (t := 46) dX0_ring_45 rfl ?_
    exact ew_iret rfl dX0_ring_46 (Nat.le_refl _) (Nat.le_refl _) (by rw [show rngP sm F hr wh v = (-1, sm, F) from by unfold rngP; rw [show inL hr.toInt64 1 6 = inI hr 1 6 from inL_I hr 1 6, if_pos c_7]]; exact XU.same xt)
  · refine ew_iload_n (t := 11) dX0_ring_10 rfl rfl rfl ?_
    refine ew_ic0 (t := 12) dX0_ring_11 rfl ?_
    refine ew_ic1 (t := 13) dX0_ring_12 rfl ?_
    refine ew_callS (t := 16) (As := [_, _, _]) (ax_isIn _ _ _) (lw_S q330 q331 q51 q332) naX0_isIn dX0_ring_13 rfl (Nat.le_of_ble_eq_true rfl) (Nat.le_of_ble_eq_true rfl) (Nat.le_refl _) (Nat.le_refl _) (Nat.le_of_ble_eq_true rfl) rfl (qi ?_)
    refine ew_if_eq (t := 45) (t2 := 19) dX0_ring_16 rfl rfl (fun c_16 => ?_) (fun c_16 => ?_)
    · refine ew_icm1 (t := 46) dX0_ring_45 rfl ?_
      exact ew_iret rfl dX0_ring_46 (Nat.le_refl _) (Nat.le_refl _) (by rw [show rngP sm F hr wh v = (-1, sm, F) from by unfold rngP; rw [show inL hr.toInt64 1 6 = inI hr 1 6 from inL_I hr 1 6, if_neg c_7, show inL wh.toInt64 0 1 = inI wh 0 1 from inL_I wh 0 1, if_pos c_16]]; exact XU.same xt)
    · refine ew_iload_n (t := 20) dX0_ring_19 rfl rfl rfl ?_
      refine ew_if_ne (t := 36) (t2 := 23) dX0_ring_20 rfl rfl (fun c_20 => ?_) (fun c_20 => ?_)
      · refine ew_iload_n (t := 37) dX0_ring_36 rfl rfl rfl ?_
        refine ew_ic0 (t := 38) dX0_ring_37 rfl ?_
        refine ew_ic2 (t := 39) dX0_ring_38 rfl ?_
        refine ew_callS (t := 42) (As := [_, _, _]) (ax_isIn _ _ _) (lw_S q330 q331 q51 q332) naX0_isIn dX0_ring_39 rfl (Nat.le_of_ble_eq_true rfl) (Nat.le_of_ble_eq_true rfl) (Nat.le_refl _) (Nat.le_refl _) (Nat.le_of_ble_eq_true rfl) rfl (qi ?_)
        refine ew_if_ne (t := 47) (t2 := 45) dX0_ring_42 rfl rfl (fun c_42 => ?_) (fun c_42 => ?_)
        · obtain ⟨j, hj1, hj, rfl⟩ := inI_nat (c := hr) (lo := 1) (hi := 6) (by omega) (by omega) (b2i_1.mp c_7)
          refine ew_iload_n (t := 48) dX0_ring_47 rfl rfl rfl ?_
          refine ew_ic1 (t := 49) dX0_ring_48 rfl ?_
          refine ew_icmp_ne (t := 79) (t2 := 52) dX0_ring_49 rfl rfl (fun c_49 => ?_) (fun c_49 => ?_)
          · exact absurd ((in01 c_16).resolve_left c_20) c_49
          · refine ew_aload_n (t := 53) dX0_ring_52 rfl rfl rfl ?_
            refine ew_get (t := 56) (j := 0) (v := .ref 2) fcX0 x1 (Nat.le_of_ble_eq_true rfl) q255 rfl dX0_ring_53 rfl ?_
            refine ew_getN (t := 59) (j := 2) (v := .ref 5) fcX1 xt.1 (Nat.le_of_ble_eq_true rfl) q131 rfl dX0_ring_56 rfl ?_
            refine ew_iload_n (t := 60) dX0_ring_59 rfl rfl rfl ?_
            refine ew_iald (t := 61) (j := j) (N := 7) xt.2.2.2.1 (vp_in_nI (by omega) (by omega)) (nI_clamp (by omega)) dX0_ring_60 rfl ?_
            refine ew_istore (t := 63) (L' := [some (.ref 1), some (.int (nI j)), some (.int wh), some (.int v), some (.int ((F 36) j))]) dX0_ring_61 (Nat.le_of_ble_eq_true rfl) rfl rfl ?_
            refine ew_aload_n (t := 64) dX0_ring_63 rfl rfl rfl ?_
            refine ew_get (t := 67) (j := 0) (v := .ref 2) fcX0 x1 (Nat.le_of_ble_eq_true rfl) q255 rfl dX0_ring_64 rfl ?_
            refine ew_getN (t := 70) (j := 2) (v := .ref 5) fcX1 xt.1 (Nat.le_of_ble_eq_true rfl) q131 rfl dX0_ring_67 rfl ?_
            refine ew_iload_n (t := 71) dX0_ring_70 rfl rfl rfl ?_
            refine ew_iload_n (t := 72) dX0_ring_71 rfl rfl rfl ?_
            refine ew_iast (t := 73) (j := j) (N := 7) (h' := (hov h [(5, IA 7 (upd (F 36) j v))])) xt.2.2.2.1 (vp_in_nI (by omega) (by omega)) (nI_clamp (by omega)) dX0_ring_72 hov_up0 rfl ?_
            refine ew_bipush (t := 75) (v := 100) dX0_ring_73 (by decide) rfl ?_
            refine ew_iload (t := 77) dX0_ring_75 rfl rfl ?_
            refine ew_iadd (t := 78) dX0_ring_77 rfl ?_
            exact ew_iret rfl dX0_ring_78 (Nat.le_refl _) (Nat.le_refl _) (by rw [show rngP sm F (nI j) wh v = (100 + F 36 j, sm, va_up F 36 (upd (F 36) j v)) from by unfold rngP; rw [show inL (nI j).toInt64 1 6 = inI (nI j) 1 6 from inL_I (nI j) 1 6, if_neg c_7, show inL wh.toInt64 0 1 = inI wh 0 1 from inL_I wh 0 1, if_neg c_16, show (if ¬ wh = 0 then (0 : Int64) else -1) = 0 from if_pos c_20, show (if ¬ wh = 0 then (2 : Int64) else 40) = 2 from if_pos c_20, show inL v.toInt64 (0) 2 = inI v (0) 2 from inL_I v (0) 2, if_pos c_42, if_pos c_20, nI_clamp (n := j) (by omega)]]; exact XU.u36 xt)
        · refine ew_icm1 (t := 46) dX0_ring_45 rfl ?_
          exact ew_iret rfl dX0_ring_46 (Nat.le_refl _) (Nat.le_refl _) (by rw [show rngP sm F hr wh v = (-1, sm, F) from by unfold rngP; rw [show inL hr.toInt64 1 6 = inI hr 1 6 from inL_I hr 1 6, if_neg c_7, show inL wh.toInt64 0 1 = inI wh 0 1 from inL_I wh 0 1, if_neg c_16, show (if ¬ wh = 0 then (0 : Int64) else -1) = 0 from if_pos c_20, show (if ¬ wh = 0 then (2 : Int64) else 40) = 2 from if_pos c_20, show inL v.toInt64 (0) 2 = inI v (0) 2 from inL_I v (0) 2, if_neg (not_not_intro c_42)]]; exact XU.same xt)
      · refine ew_iload_n (t := 24) dX0_ring_23 rfl rfl rfl ?_
        refine ew_icm1 (t := 25) dX0_ring_24 rfl ?_
        refine ew_bipush (t := 27) (v := 40) dX0_ring_25 (by decide) rfl ?_
        refine ew_callS (t := 30) (As := [_, _, _]) (ax_isIn _ _ _) (lw_S q330 q331 q51 q332) naX0_isIn dX0_ring_27 rfl (Nat.le_of_ble_eq_true rfl) (Nat.le_of_ble_eq_true rfl) (Nat.le_refl _) (Nat.le_refl _) (Nat.le_of_ble_eq_true rfl) rfl (qi ?_)
        refine ew_if_ne (t := 47) (t2 := 33) dX0_ring_30 rfl rfl (fun c_30 => ?_) (fun c_30 => ?_)
        · obtain ⟨j, hj1, hj, rfl⟩ := inI_nat (c := hr) (lo := 1) (hi := 6) (by omega) (by omega) (b2i_1.mp c_7)
          refine ew_iload_n (t := 48) dX0_ring_47 rfl rfl rfl ?_
          refine ew_ic1 (t := 49) dX0_ring_48 rfl ?_
          refine ew_icmp_ne (t := 79) (t2 := 52) dX0_ring_49 rfl rfl (fun c_49 => ?_) (fun c_49 => ?_)
          · refine ew_aload_n (t := 80) dX0_ring_79 rfl rfl rfl ?_
            refine ew_get (t := 83) (j := 0) (v := .ref 2) fcX0 x1 (Nat.le_of_ble_eq_true rfl) q255 rfl dX0_ring_80 rfl ?_
            refine ew_getN (t := 86) (j := 1) (v := .ref 4) fcX1 xt.1 (Nat.le_of_ble_eq_true rfl) q129 rfl dX0_ring_83 rfl ?_
            refine ew_iload_n (t := 87) dX0_ring_86 rfl rfl rfl ?_
            refine ew_iald (t := 88) (j := j) (N := 7) xt.2.2.1 (vp_in_nI (by omega) (by omega)) (nI_clamp (by omega)) dX0_ring_87 rfl ?_
            refine ew_istore (t := 90) (L' := [some (.ref 1), some (.int (nI j)), some (.int wh), some (.int v), some (.int ((frX (F 35)) j))]) dX0_ring_88 (Nat.le_of_ble_eq_true rfl) rfl rfl ?_
            refine ew_aload_n (t := 91) dX0_ring_90 rfl rfl rfl ?_
            refine ew_get (t := 94) (j := 0) (v := .ref 2) fcX0 x1 (Nat.le_of_ble_eq_true rfl) q255 rfl dX0_ring_91 rfl ?_
            refine ew_getN (t := 97) (j := 1) (v := .ref 4) fcX1 xt.1 (Nat.le_of_ble_eq_true rfl) q129 rfl dX0_ring_94 rfl ?_
            refine ew_iload_n (t := 98) dX0_ring_97 rfl rfl rfl ?_
            refine ew_iload_n (t := 99) dX0_ring_98 rfl rfl rfl ?_
            have J108 : ∀ (j108_0 : Int32), j108_0 = ((if 0 ≤ v then v else (-4)) : Int32) → EW l G yX0_ring cX0_ring 5 (some .int) 2 0 0 (XU h n (rngP sm F (nI j) wh v)) 0 0 h n 108 [some (.ref 1), some (.int (nI j)), some (.int wh), some (.int v), some (.int ((frX (F 35)) j))] [.int j108_0, .int (nI j), .ref 4] := by
              intro j108_0 hj108_0
              refine ew_iast (t := 109) (j := j) (N := 7) (h' := (hov h [(4, IA 7 (upd (frX (F 35)) j j108_0))])) xt.2.2.1 (vp_in_nI (by omega) (by omega)) (nI_clamp (by omega)) dX0_ring_108 hov_up0 rfl ?_
              refine ew_iload (t := 111) dX0_ring_109 rfl rfl ?_
              refine ew_if_ge (t := 119) (t2 := 114) dX0_ring_111 rfl rfl (fun c_111 => ?_) (fun c_111 => ?_)
              · refine ew_bipush (t := 121) (v := 100) dX0_ring_119 (by decide) rfl ?_
                refine ew_iload (t := 123) dX0_ring_121 rfl rfl ?_
                refine ew_iadd (t := 124) dX0_ring_123 rfl ?_
                exact ew_iret rfl dX0_ring_124 (Nat.le_refl _) (Nat.le_refl _) (by rw [show rngP sm F (nI j) wh v = (100 + F 35 j, sm, va_up F 35 (upd (F 35) j v)) from by unfold rngP; rw [show inL (nI j).toInt64 1 6 = inI (nI j) 1 6 from inL_I (nI j) 1 6, if_neg c_7, show inL wh.toInt64 0 1 = inI wh 0 1 from inL_I wh 0 1, if_neg c_16, show (if ¬ wh = 0 then (0 : Int64) else -1) = -1 from if_neg (not_not_intro c_20), show (if ¬ wh = 0 then (2 : Int64) else 40) = 40 from if_neg (not_not_intro c_20), show inL v.toInt64 (-1) 40 = inI v (-1) 40 from inL_I v (-1) 40, if_pos c_30, if_neg (not_not_intro c_20), nI_clamp (n := j) (by omega)]]; rw [hj108_0, show 100 + F 35 j = 100 + frX (F 35) j from (frX_old (hR1 j (by omega))).symm.trans (if_pos c_111)]; exact XU.u35 xt frX_up)
              · refine ew_bipush (t := 116) (v := 99) dX0_ring_114 (by decide) rfl ?_
                refine ew_goto (t := 124) dX0_ring_116 rfl ?_
                exact ew_iret rfl dX0_ring_124 (Nat.le_refl _) (Nat.le_refl _) (by rw [show rngP sm F (nI j) wh v = (100 + F 35 j, sm, va_up F 35 (upd (F 35) j v)) from by unfold rngP; rw [show inL (nI j).toInt64 1 6 = inI (nI j) 1 6 from inL_I (nI j) 1 6, if_neg c_7, show inL wh.toInt64 0 1 = inI wh 0 1 from inL_I wh 0 1, if_neg c_16, show (if ¬ wh = 0 then (0 : Int64) else -1) = -1 from if_neg (not_not_intro c_20), show (if ¬ wh = 0 then (2 : Int64) else 40) = 40 from if_neg (not_not_intro c_20), show inL v.toInt64 (-1) 40 = inI v (-1) 40 from inL_I v (-1) 40, if_pos c_30, if_neg (not_not_intro c_20), nI_clamp (n := j) (by omega)]]; rw [hj108_0, show 100 + F 35 j = 99 from (frX_old (hR1 j (by omega))).symm.trans (if_neg c_111)]; exact XU.u35 xt frX_up)
            refine ew_if_ge (t := 107) (t2 := 102) dX0_ring_99 rfl rfl (fun c_99 => ?_) (fun c_99 => ?_)
            · refine ew_iload_n (t := 108) dX0_ring_107 rfl rfl rfl ?_
              exact J108 v (by simp only [if_pos c_99])
            · refine ew_bipush (t := 104) (v := (-4)) dX0_ring_102 (by decide) rfl ?_
              refine ew_goto (t := 108) dX0_ring_104 rfl ?_
              exact J108 (-4) (by simp only [if_neg c_99])
          · exact absurd (c_49.symm.trans c_20) (by decide)
        · refine ew_goto (t := 45) dX0_ring_33 rfl ?_
          refine ew_icm1 (t := 46) dX0_ring_45 rfl ?_
          exact ew_iret rfl dX0_ring_46 (Nat.le_refl _) (Nat.le_refl _) (by rw [show rngP sm F hr wh v = (-1, sm, F) from by unfold rngP; rw [show inL hr.toInt64 1 6 = inI hr 1 6 from inL_I hr 1 6, if_neg c_7, show inL wh.toInt64 0 1 = inI wh 0 1 from inL_I wh 0 1, if_neg c_16, show (if ¬ wh = 0 then (0 : Int64) else -1) = -1 from if_neg (not_not_intro c_20), show (if ¬ wh = 0 then (2 : Int64) else 40) = 40 from if_neg (not_not_intro c_20), show inL v.toInt64 (-1) 40 = inI v (-1) 40 from inL_I v (-1) 40, if_neg (not_not_intro c_30)]]; exact XU.same xt)
set_option maxHeartbeats 600000 in
theorem xc_set {l : Launch} {G : GW} {h : AH} {n : Nat} {s sm : Nat → Int32} {F : Nat → Nat → Int32} (x1 : h 1 = some (XO s)) (xt : XT F h) (wh v : Int32) : AM l G yX0_set cX0_set 5 (some .int) 2 0 0 [.ref 1, .int wh, .int v] h n (XU h n (setP sm F wh v)) := by
  refine AM.of (L := [some (.ref 1), some (.int wh), some (.int v), none, none]) (by decide) (Nat.le_of_ble_eq_true rfl) rfl ?_
  refine ew_iload_n (t := 1) dX0_set_0 rfl rfl rfl ?_
  refine ew_ic0 (t := 2) dX0_set_1 rfl ?_
  refine ew_bipush (t := 4) (v := 7) dX0_set_2 (by decide) rfl ?_
  refine ew_callS (t := 7) (As := [_, _, _]) (ax_isIn _ _ _) (lw_S q330 q331 q51 q332) naX0_isIn dX0_set_4 rfl (Nat.le_of_ble_eq_true rfl) (Nat.le_of_ble_eq_true rfl) (Nat.le_refl _) (Nat.le_refl _) (Nat.le_of_ble_eq_true rfl) rfl (qi ?_)
  refine ew_if_eq (t := 127) (t2 := 10) dX0_set_7 rfl rfl (fun c_7 => ?_) (fun c_7 => ?_)
  · refine ew_ic0 (t := 128) dX0_set_127 rfl ?_
    refine ew_istore_n (t := 129) (L' := [some (.ref 1), some (.int wh), some (.int v), some (.int 0), none]) dX0_set_128 rfl (Nat.le_of_ble_eq_true rfl) rfl rfl ?_
    refine ew_iload_n (t := 130) dX0_set_129 rfl rfl rfl ?_
    refine ew_if_ne (t := 135) (t2 := 133) dX0_set_130 rfl rfl (fun c_130 => ?_) (fun c_130 => ?_)
    · exact absurd c_130 (by decide)
    · refine ew_icm1 (t := 134) dX0_set_133 rfl ?_
      exact ew_iret rfl dX0_set_134 (Nat.le_refl _) (Nat.le_refl _) (by rw [show setP sm F wh v = (-1, sm, F) from by unfold setP; rw [show inL wh.toInt64 0 7 = inI wh 0 7 from inL_I wh 0 7, if_neg (not_not_intro c_7)]]; exact XU.same xt)
  · refine ew_iload_n (t := 11) dX0_set_10 rfl rfl rfl ?_
    refine ew_ic2 (t := 12) dX0_set_11 rfl ?_
    refine ew_icmp_ge (t := 25) (t2 := 15) dX0_set_12 rfl rfl (fun c_12 => ?_) (fun c_12 => ?_)
    · refine ew_iload_n (t := 26) dX0_set_25 rfl rfl rfl ?_
      refine ew_ic2 (t := 27) dX0_set_26 rfl ?_
      refine ew_icmp_ne (t := 43) (t2 := 30) dX0_set_27 rfl rfl (fun c_27 => ?_) (fun c_27 => ?_)
      · refine ew_iload_n (t := 44) dX0_set_43 rfl rfl rfl ?_
        refine ew_ic3 (t := 45) dX0_set_44 rfl ?_
        refine ew_icmp_ne (t := 60) (t2 := 48) dX0_set_45 rfl rfl (fun c_45 => ?_) (fun c_45 => ?_)
        · refine ew_iload_n (t := 61) dX0_set_60 rfl rfl rfl ?_
          refine ew_ic4 (t := 62) dX0_set_61 rfl ?_
          refine ew_icmp_ne (t := 77) (t2 := 65) dX0_set_62 rfl rfl (fun c_62 => ?_) (fun c_62 => ?_)
          · refine ew_iload_n (t := 78) dX0_set_77 rfl rfl rfl ?_
            refine ew_ic5 (t := 79) dX0_set_78 rfl ?_
            refine ew_icmp_ne (t := 95) (t2 := 82) dX0_set_79 rfl rfl (fun c_79 => ?_) (fun c_79 => ?_)
            · refine ew_iload_n (t := 96) dX0_set_95 rfl rfl rfl ?_
              refine ew_bipush (t := 98) (v := 6) dX0_set_96 (by decide) rfl ?_
              refine ew_icmp_ne (t := 113) (t2 := 101) dX0_set_98 rfl rfl (fun c_98 => ?_) (fun c_98 => ?_)
              · refine ew_iload_n (t := 114) dX0_set_113 rfl rfl rfl ?_
                refine ew_ic0 (t := 115) dX0_set_114 rfl ?_
                refine ew_bipush (t := 117) (v := 8) dX0_set_115 (by decide) rfl ?_
                refine ew_callS (t := 120) (As := [_, _, _]) (ax_isIn _ _ _) (lw_S q330 q331 q51 q332) naX0_isIn dX0_set_117 rfl (Nat.le_of_ble_eq_true rfl) (Nat.le_of_ble_eq_true rfl) (Nat.le_refl _) (Nat.le_refl _) (Nat.le_of_ble_eq_true rfl) rfl (qi ?_)
                refine ew_if_eq (t := 127) (t2 := 123) dX0_set_120 rfl rfl (fun c_120 => ?_) (fun c_120 => ?_)
                · refine ew_ic0 (t := 128) dX0_set_127 rfl ?_
                  refine ew_istore_n (t := 129) (L' := [some (.ref 1), some (.int wh), some (.int v), some (.int 0), none]) dX0_set_128 rfl (Nat.le_of_ble_eq_true rfl) rfl rfl ?_
                  refine ew_iload_n (t := 130) dX0_set_129 rfl rfl rfl ?_
                  refine ew_if_ne (t := 135) (t2 := 133) dX0_set_130 rfl rfl (fun c_130 => ?_) (fun c_130 => ?_)
                  · exact absurd c_130 (by decide)
                  · refine ew_icm1 (t := 134) dX0_set_133 rfl ?_
                    exact ew_iret rfl dX0_set_134 (Nat.le_refl _) (Nat.le_refl _) (by rw [show setP sm F wh v = (-1, sm, F) from by unfold setP; rw [show inL wh.toInt64 0 7 = inI wh 0 7 from inL_I wh 0 7, if_pos c_7, show setM wh = 8 from by unfold setM; rw [if_pos c_12, if_pos c_27, if_pos c_45, if_pos c_62, if_pos c_79, if_pos c_98], show (if ¬ wh = 2 then (0 : Int64) else 1) = 0 from if_pos c_27, show inL v.toInt64 0 (8 : Int32).toInt64 = inI v 0 8 from inL_I v 0 8, if_neg (not_not_intro c_120)]]; exact XU.same xt)
                · refine ew_ic1 (t := 124) dX0_set_123 rfl ?_
                  refine ew_goto (t := 128) dX0_set_124 rfl ?_
                  refine ew_istore_n (t := 129) (L' := [some (.ref 1), some (.int wh), some (.int v), some (.int 1), none]) dX0_set_128 rfl (Nat.le_of_ble_eq_true rfl) rfl rfl ?_
                  refine ew_iload_n (t := 130) dX0_set_129 rfl rfl rfl ?_
                  refine ew_if_ne (t := 135) (t2 := 133) dX0_set_130 rfl rfl (fun c_130 => ?_) (fun c_130 => ?_)
                  · obtain ⟨j, -, hj, rfl⟩ := inI_nat (c := wh) (lo := 0) (hi := 7) (by omega) (by omega) (b2i_1.mp c_7)
                    refine ew_aload_n (t := 136) dX0_set_135 rfl rfl rfl ?_
                    refine ew_get (t := 139) (j := 0) (v := .ref 2) fcX0 x1 (Nat.le_of_ble_eq_true rfl) q255 rfl dX0_set_136 rfl ?_
                    refine ew_getN (t := 142) (j := 0) (v := .ref 3) fcX1 xt.1 (Nat.le_of_ble_eq_true rfl) q127 rfl dX0_set_139 rfl ?_
                    refine ew_iload_n (t := 143) dX0_set_142 rfl rfl rfl ?_
                    refine ew_iald (t := 144) (j := j) (N := 8) xt.2.1 (vp_in_nI (by omega) (by omega)) (nI_clamp (by omega)) dX0_set_143 rfl ?_
                    refine ew_istore (t := 146) (L' := [some (.ref 1), some (.int (nI j)), some (.int v), some (.int 1), some (.int ((F 34) j))]) dX0_set_144 (Nat.le_of_ble_eq_true rfl) rfl rfl ?_
                    refine ew_aload_n (t := 147) dX0_set_146 rfl rfl rfl ?_
                    refine ew_get (t := 150) (j := 0) (v := .ref 2) fcX0 x1 (Nat.le_of_ble_eq_true rfl) q255 rfl dX0_set_147 rfl ?_
                    refine ew_getN (t := 153) (j := 0) (v := .ref 3) fcX1 xt.1 (Nat.le_of_ble_eq_true rfl) q127 rfl dX0_set_150 rfl ?_
                    refine ew_iload_n (t := 154) dX0_set_153 rfl rfl rfl ?_
                    refine ew_iload_n (t := 155) dX0_set_154 rfl rfl rfl ?_
                    refine ew_iast (t := 156) (j := j) (N := 8) (h' := (hov h [(3, IA 8 (upd (F 34) j v))])) xt.2.1 (vp_in_nI (by omega) (by omega)) (nI_clamp (by omega)) dX0_set_155 hov_up0 rfl ?_
                    refine ew_iload (t := 158) dX0_set_156 rfl rfl ?_
                    exact ew_iret rfl dX0_set_158 (Nat.le_refl _) (Nat.le_refl _) (by rw [show setP sm F (nI j) v = (F 34 j, sm, va_up F 34 (upd (F 34) j v)) from by unfold setP; rw [show inL (nI j).toInt64 0 7 = inI (nI j) 0 7 from inL_I (nI j) 0 7, if_pos c_7, show setM (nI j) = 8 from by unfold setM; rw [if_pos c_12, if_pos c_27, if_pos c_45, if_pos c_62, if_pos c_79, if_pos c_98], show (if ¬ (nI j) = 2 then (0 : Int64) else 1) = 0 from if_pos c_27, show inL v.toInt64 0 (8 : Int32).toInt64 = inI v 0 8 from inL_I v 0 8, if_pos c_120, nI_clamp (n := j) (by omega)]]; exact XU.u34 xt)
                  · exact absurd c_130 (by decide)
              · refine ew_iload_n (t := 102) dX0_set_101 rfl rfl rfl ?_
                refine ew_ic0 (t := 103) dX0_set_102 rfl ?_
                refine ew_ic3 (t := 104) dX0_set_103 rfl ?_
                refine ew_callS (t := 107) (As := [_, _, _]) (ax_isIn _ _ _) (lw_S q330 q331 q51 q332) naX0_isIn dX0_set_104 rfl (Nat.le_of_ble_eq_true rfl) (Nat.le_of_ble_eq_true rfl) (Nat.le_refl _) (Nat.le_refl _) (Nat.le_of_ble_eq_true rfl) rfl (qi ?_)
                refine ew_if_eq (t := 127) (t2 := 110) dX0_set_107 rfl rfl (fun c_107 => ?_) (fun c_107 => ?_)
                · refine ew_ic0 (t := 128) dX0_set_127 rfl ?_
                  refine ew_istore_n (t := 129) (L' := [some (.ref 1), some (.int wh), some (.int v), some (.int 0), none]) dX0_set_128 rfl (Nat.le_of_ble_eq_true rfl) rfl rfl ?_
                  refine ew_iload_n (t := 130) dX0_set_129 rfl rfl rfl ?_
                  refine ew_if_ne (t := 135) (t2 := 133) dX0_set_130 rfl rfl (fun c_130 => ?_) (fun c_130 => ?_)
                  · exact absurd c_130 (by decide)
                  · refine ew_icm1 (t := 134) dX0_set_133 rfl ?_
                    exact ew_iret rfl dX0_set_134 (Nat.le_refl _) (Nat.le_refl _) (by rw [show setP sm F wh v = (-1, sm, F) from by unfold setP; rw [show inL wh.toInt64 0 7 = inI wh 0 7 from inL_I wh 0 7, if_pos c_7, show setM wh = 3 from by unfold setM; rw [if_pos c_12, if_pos c_27, if_pos c_45, if_pos c_62, if_pos c_79, if_neg (not_not_intro c_98)], show (if ¬ wh = 2 then (0 : Int64) else 1) = 0 from if_pos c_27, show inL v.toInt64 0 (3 : Int32).toInt64 = inI v 0 3 from inL_I v 0 3, if_neg (not_not_intro c_107)]]; exact XU.same xt)
                · refine ew_goto (t := 123) dX0_set_110 rfl ?_
                  refine ew_ic1 (t := 124) dX0_set_123 rfl ?_
                  refine ew_goto (t := 128) dX0_set_124 rfl ?_
                  refine ew_istore_n (t := 129) (L' := [some (.ref 1), some (.int wh), some (.int v), some (.int 1), none]) dX0_set_128 rfl (Nat.le_of_ble_eq_true rfl) rfl rfl ?_
                  refine ew_iload_n (t := 130) dX0_set_129 rfl rfl rfl ?_
                  refine ew_if_ne (t := 135) (t2 := 133) dX0_set_130 rfl rfl (fun c_130 => ?_) (fun c_130 => ?_)
                  · obtain ⟨j, -, hj, rfl⟩ := inI_nat (c := wh) (lo := 0) (hi := 7) (by omega) (by omega) (b2i_1.mp c_7)
                    refine ew_aload_n (t := 136) dX0_set_135 rfl rfl rfl ?_
                    refine ew_get (t := 139) (j := 0) (v := .ref 2) fcX0 x1 (Nat.le_of_ble_eq_true rfl) q255 rfl dX0_set_136 rfl ?_
                    refine ew_getN (t := 142) (j := 0) (v := .ref 3) fcX1 xt.1 (Nat.le_of_ble_eq_true rfl) q127 rfl dX0_set_139 rfl ?_
                    refine ew_iload_n (t := 143) dX0_set_142 rfl rfl rfl ?_
                    refine ew_iald (t := 144) (j := j) (N := 8) xt.2.1 (vp_in_nI (by omega) (by omega)) (nI_clamp (by omega)) dX0_set_143 rfl ?_
                    refine ew_istore (t := 146) (L' := [some (.ref 1), some (.int (nI j)), some (.int v), some (.int 1), some (.int ((F 34) j))]) dX0_set_144 (Nat.le_of_ble_eq_true rfl) rfl rfl ?_
                    refine ew_aload_n (t := 147) dX0_set_146 rfl rfl rfl ?_
                    refine ew_get (t := 150) (j := 0) (v := .ref 2) fcX0 x1 (Nat.le_of_ble_eq_true rfl) q255 rfl dX0_set_147 rfl ?_
                    refine ew_getN (t := 153) (j := 0) (v := .ref 3) fcX1 xt.1 (Nat.le_of_ble_eq_true rfl) q127 rfl dX0_set_150 rfl ?_
                    refine ew_iload_n (t := 154) dX0_set_153 rfl rfl rfl ?_
                    refine ew_iload_n (t := 155) dX0_set_154 rfl rfl rfl ?_
                    refine ew_iast (t := 156) (j := j) (N := 8) (h' := (hov h [(3, IA 8 (upd (F 34) j v))])) xt.2.1 (vp_in_nI (by omega) (by omega)) (nI_clamp (by omega)) dX0_set_155 hov_up0 rfl ?_
                    refine ew_iload (t := 158) dX0_set_156 rfl rfl ?_
                    exact ew_iret rfl dX0_set_158 (Nat.le_refl _) (Nat.le_refl _) (by rw [show setP sm F (nI j) v = (F 34 j, sm, va_up F 34 (upd (F 34) j v)) from by unfold setP; rw [show inL (nI j).toInt64 0 7 = inI (nI j) 0 7 from inL_I (nI j) 0 7, if_pos c_7, show setM (nI j) = 3 from by unfold setM; rw [if_pos c_12, if_pos c_27, if_pos c_45, if_pos c_62, if_pos c_79, if_neg (not_not_intro c_98)], show (if ¬ (nI j) = 2 then (0 : Int64) else 1) = 0 from if_pos c_27, show inL v.toInt64 0 (3 : Int32).toInt64 = inI v 0 3 from inL_I v 0 3, if_pos c_107, nI_clamp (n := j) (by omega)]]; exact XU.u34 xt)
                  · exact absurd c_130 (by decide)
            · refine ew_iload_n (t := 83) dX0_set_82 rfl rfl rfl ?_
              refine ew_ic0 (t := 84) dX0_set_83 rfl ?_
              refine ew_bipush (t := 86) (v := 60) dX0_set_84 (by decide) rfl ?_
              refine ew_callS (t := 89) (As := [_, _, _]) (ax_isIn _ _ _) (lw_S q330 q331 q51 q332) naX0_isIn dX0_set_86 rfl (Nat.le_of_ble_eq_true rfl) (Nat.le_of_ble_eq_true rfl) (Nat.le_refl _) (Nat.le_refl _) (Nat.le_of_ble_eq_true rfl) rfl (qi ?_)
              refine ew_if_eq (t := 127) (t2 := 92) dX0_set_89 rfl rfl (fun c_89 => ?_) (fun c_89 => ?_)
              · refine ew_ic0 (t := 128) dX0_set_127 rfl ?_
                refine ew_istore_n (t := 129) (L' := [some (.ref 1), some (.int wh), some (.int v), some (.int 0), none]) dX0_set_128 rfl (Nat.le_of_ble_eq_true rfl) rfl rfl ?_
                refine ew_iload_n (t := 130) dX0_set_129 rfl rfl rfl ?_
                refine ew_if_ne (t := 135) (t2 := 133) dX0_set_130 rfl rfl (fun c_130 => ?_) (fun c_130 => ?_)
                · exact absurd c_130 (by decide)
                · refine ew_icm1 (t := 134) dX0_set_133 rfl ?_
                  exact ew_iret rfl dX0_set_134 (Nat.le_refl _) (Nat.le_refl _) (by rw [show setP sm F wh v = (-1, sm, F) from by unfold setP; rw [show inL wh.toInt64 0 7 = inI wh 0 7 from inL_I wh 0 7, if_pos c_7, show setM wh = 60 from by unfold setM; rw [if_pos c_12, if_pos c_27, if_pos c_45, if_pos c_62, if_neg (not_not_intro c_79)], show (if ¬ wh = 2 then (0 : Int64) else 1) = 0 from if_pos c_27, show inL v.toInt64 0 (60 : Int32).toInt64 = inI v 0 60 from inL_I v 0 60, if_neg (not_not_intro c_89)]]; exact XU.same xt)
              · refine ew_goto (t := 123) dX0_set_92 rfl ?_
                refine ew_ic1 (t := 124) dX0_set_123 rfl ?_
                refine ew_goto (t := 128) dX0_set_124 rfl ?_
                refine ew_istore_n (t := 129) (L' := [some (.ref 1), some (.int wh), some (.int v), some (.int 1), none]) dX0_set_128 rfl (Nat.le_of_ble_eq_true rfl) rfl rfl ?_
                refine ew_iload_n (t := 130) dX0_set_129 rfl rfl rfl ?_
                refine ew_if_ne (t := 135) (t2 := 133) dX0_set_130 rfl rfl (fun c_130 => ?_) (fun c_130 => ?_)
                · obtain ⟨j, -, hj, rfl⟩ := inI_nat (c := wh) (lo := 0) (hi := 7) (by omega) (by omega) (b2i_1.mp c_7)
                  refine ew_aload_n (t := 136) dX0_set_135 rfl rfl rfl ?_
                  refine ew_get (t := 139) (j := 0) (v := .ref 2) fcX0 x1 (Nat.le_of_ble_eq_true rfl) q255 rfl dX0_set_136 rfl ?_
                  refine ew_getN (t := 142) (j := 0) (v := .ref 3) fcX1 xt.1 (Nat.le_of_ble_eq_true rfl) q127 rfl dX0_set_139 rfl ?_
                  refine ew_iload_n (t := 143) dX0_set_142 rfl rfl rfl ?_
                  refine ew_iald (t := 144) (j := j) (N := 8) xt.2.1 (vp_in_nI (by omega) (by omega)) (nI_clamp (by omega)) dX0_set_143 rfl ?_
                  refine ew_istore (t := 146) (L' := [some (.ref 1), some (.int (nI j)), some (.int v), some (.int 1), some (.int ((F 34) j))]) dX0_set_144 (Nat.le_of_ble_eq_true rfl) rfl rfl ?_
                  refine ew_aload_n (t := 147) dX0_set_146 rfl rfl rfl ?_
                  refine ew_get (t := 150) (j := 0) (v := .ref 2) fcX0 x1 (Nat.le_of_ble_eq_true rfl) q255 rfl dX0_set_147 rfl ?_
                  refine ew_getN (t := 153) (j := 0) (v := .ref 3) fcX1 xt.1 (Nat.le_of_ble_eq_true rfl) q127 rfl dX0_set_150 rfl ?_
                  refine ew_iload_n (t := 154) dX0_set_153 rfl rfl rfl ?_
                  refine ew_iload_n (t := 155) dX0_set_154 rfl rfl rfl ?_
                  refine ew_iast (t := 156) (j := j) (N := 8) (h' := (hov h [(3, IA 8 (upd (F 34) j v))])) xt.2.1 (vp_in_nI (by omega) (by omega)) (nI_clamp (by omega)) dX0_set_155 hov_up0 rfl ?_
                  refine ew_iload (t := 158) dX0_set_156 rfl rfl ?_
                  exact ew_iret rfl dX0_set_158 (Nat.le_refl _) (Nat.le_refl _) (by rw [show setP sm F (nI j) v = (F 34 j, sm, va_up F 34 (upd (F 34) j v)) from by unfold setP; rw [show inL (nI j).toInt64 0 7 = inI (nI j) 0 7 from inL_I (nI j) 0 7, if_pos c_7, show setM (nI j) = 60 from by unfold setM; rw [if_pos c_12, if_pos c_27, if_pos c_45, if_pos c_62, if_neg (not_not_intro c_79)], show (if ¬ (nI j) = 2 then (0 : Int64) else 1) = 0 from if_pos c_27, show inL v.toInt64 0 (60 : Int32).toInt64 = inI v 0 60 from inL_I v 0 60, if_pos c_89, nI_clamp (n := j) (by omega)]]; exact XU.u34 xt)
                · exact absurd c_130 (by decide)
          · refine ew_iload_n (t := 66) dX0_set_65 rfl rfl rfl ?_
            refine ew_ic0 (t := 67) dX0_set_66 rfl ?_
            refine ew_ic1 (t := 68) dX0_set_67 rfl ?_
            refine ew_callS (t := 71) (As := [_, _, _]) (ax_isIn _ _ _) (lw_S q330 q331 q51 q332) naX0_isIn dX0_set_68 rfl (Nat.le_of_ble_eq_true rfl) (Nat.le_of_ble_eq_true rfl) (Nat.le_refl _) (Nat.le_refl _) (Nat.le_of_ble_eq_true rfl) rfl (qi ?_)
            refine ew_if_eq (t := 127) (t2 := 74) dX0_set_71 rfl rfl (fun c_71 => ?_) (fun c_71 => ?_)
            · refine ew_ic0 (t := 128) dX0_set_127 rfl ?_
              refine ew_istore_n (t := 129) (L' := [some (.ref 1), some (.int wh), some (.int v), some (.int 0), none]) dX0_set_128 rfl (Nat.le_of_ble_eq_true rfl) rfl rfl ?_
              refine ew_iload_n (t := 130) dX0_set_129 rfl rfl rfl ?_
              refine ew_if_ne (t := 135) (t2 := 133) dX0_set_130 rfl rfl (fun c_130 => ?_) (fun c_130 => ?_)
              · exact absurd c_130 (by decide)
              · refine ew_icm1 (t := 134) dX0_set_133 rfl ?_
                exact ew_iret rfl dX0_set_134 (Nat.le_refl _) (Nat.le_refl _) (by rw [show setP sm F wh v = (-1, sm, F) from by unfold setP; rw [show inL wh.toInt64 0 7 = inI wh 0 7 from inL_I wh 0 7, if_pos c_7, show setM wh = 1 from by unfold setM; rw [if_pos c_12, if_pos c_27, if_pos c_45, if_neg (not_not_intro c_62)], show (if ¬ wh = 2 then (0 : Int64) else 1) = 0 from if_pos c_27, show inL v.toInt64 0 (1 : Int32).toInt64 = inI v 0 1 from inL_I v 0 1, if_neg (not_not_intro c_71)]]; exact XU.same xt)
            · refine ew_goto (t := 123) dX0_set_74 rfl ?_
              refine ew_ic1 (t := 124) dX0_set_123 rfl ?_
              refine ew_goto (t := 128) dX0_set_124 rfl ?_
              refine ew_istore_n (t := 129) (L' := [some (.ref 1), some (.int wh), some (.int v), some (.int 1), none]) dX0_set_128 rfl (Nat.le_of_ble_eq_true rfl) rfl rfl ?_
              refine ew_iload_n (t := 130) dX0_set_129 rfl rfl rfl ?_
              refine ew_if_ne (t := 135) (t2 := 133) dX0_set_130 rfl rfl (fun c_130 => ?_) (fun c_130 => ?_)
              · obtain ⟨j, -, hj, rfl⟩ := inI_nat (c := wh) (lo := 0) (hi := 7) (by omega) (by omega) (b2i_1.mp c_7)
                refine ew_aload_n (t := 136) dX0_set_135 rfl rfl rfl ?_
                refine ew_get (t := 139) (j := 0) (v := .ref 2) fcX0 x1 (Nat.le_of_ble_eq_true rfl) q255 rfl dX0_set_136 rfl ?_
                refine ew_getN (t := 142) (j := 0) (v := .ref 3) fcX1 xt.1 (Nat.le_of_ble_eq_true rfl) q127 rfl dX0_set_139 rfl ?_
                refine ew_iload_n (t := 143) dX0_set_142 rfl rfl rfl ?_
                refine ew_iald (t := 144) (j := j) (N := 8) xt.2.1 (vp_in_nI (by omega) (by omega)) (nI_clamp (by omega)) dX0_set_143 rfl ?_
                refine ew_istore (t := 146) (L' := [some (.ref 1), some (.int (nI j)), some (.int v), some (.int 1), some (.int ((F 34) j))]) dX0_set_144 (Nat.le_of_ble_eq_true rfl) rfl rfl ?_
                refine ew_aload_n (t := 147) dX0_set_146 rfl rfl rfl ?_
                refine ew_get (t := 150) (j := 0) (v := .ref 2) fcX0 x1 (Nat.le_of_ble_eq_true rfl) q255 rfl dX0_set_147 rfl ?_
                refine ew_getN (t := 153) (j := 0) (v := .ref 3) fcX1 xt.1 (Nat.le_of_ble_eq_true rfl) q127 rfl dX0_set_150 rfl ?_
                refine ew_iload_n (t := 154) dX0_set_153 rfl rfl rfl ?_
                refine ew_iload_n (t := 155) dX0_set_154 rfl rfl rfl ?_
                refine ew_iast (t := 156) (j := j) (N := 8) (h' := (hov h [(3, IA 8 (upd (F 34) j v))])) xt.2.1 (vp_in_nI (by omega) (by omega)) (nI_clamp (by omega)) dX0_set_155 hov_up0 rfl ?_
                refine ew_iload (t := 158) dX0_set_156 rfl rfl ?_
                exact ew_iret rfl dX0_set_158 (Nat.le_refl _) (Nat.le_refl _) (by rw [show setP sm F (nI j) v = (F 34 j, sm, va_up F 34 (upd (F 34) j v)) from by unfold setP; rw [show inL (nI j).toInt64 0 7 = inI (nI j) 0 7 from inL_I (nI j) 0 7, if_pos c_7, show setM (nI j) = 1 from by unfold setM; rw [if_pos c_12, if_pos c_27, if_pos c_45, if_neg (not_not_intro c_62)], show (if ¬ (nI j) = 2 then (0 : Int64) else 1) = 0 from if_pos c_27, show inL v.toInt64 0 (1 : Int32).toInt64 = inI v 0 1 from inL_I v 0 1, if_pos c_71, nI_clamp (n := j) (by omega)]]; exact XU.u34 xt)
              · exact absurd c_130 (by decide)
        · refine ew_iload_n (t := 49) dX0_set_48 rfl rfl rfl ?_
          refine ew_ic0 (t := 50) dX0_set_49 rfl ?_
          refine ew_ic2 (t := 51) dX0_set_50 rfl ?_
          refine ew_callS (t := 54) (As := [_, _, _]) (ax_isIn _ _ _) (lw_S q330 q331 q51 q332) naX0_isIn dX0_set_51 rfl (Nat.le_of_ble_eq_true rfl) (Nat.le_of_ble_eq_true rfl) (Nat.le_refl _) (Nat.le_refl _) (Nat.le_of_ble_eq_true rfl) rfl (qi ?_)
          refine ew_if_eq (t := 127) (t2 := 57) dX0_set_54 rfl rfl (fun c_54 => ?_) (fun c_54 => ?_)
          · refine ew_ic0 (t := 128) dX0_set_127 rfl ?_
            refine ew_istore_n (t := 129) (L' := [some (.ref 1), some (.int wh), some (.int v), some (.int 0), none]) dX0_set_128 rfl (Nat.le_of_ble_eq_true rfl) rfl rfl ?_
            refine ew_iload_n (t := 130) dX0_set_129 rfl rfl rfl ?_
            refine ew_if_ne (t := 135) (t2 := 133) dX0_set_130 rfl rfl (fun c_130 => ?_) (fun c_130 => ?_)
            · exact absurd c_130 (by decide)
            · refine ew_icm1 (t := 134) dX0_set_133 rfl ?_
              exact ew_iret rfl dX0_set_134 (Nat.le_refl _) (Nat.le_refl _) (by rw [show setP sm F wh v = (-1, sm, F) from by unfold setP; rw [show inL wh.toInt64 0 7 = inI wh 0 7 from inL_I wh 0 7, if_pos c_7, show setM wh = 2 from by unfold setM; rw [if_pos c_12, if_pos c_27, if_neg (not_not_intro c_45)], show (if ¬ wh = 2 then (0 : Int64) else 1) = 0 from if_pos c_27, show inL v.toInt64 0 (2 : Int32).toInt64 = inI v 0 2 from inL_I v 0 2, if_neg (not_not_intro c_54)]]; exact XU.same xt)
          · refine ew_goto (t := 123) dX0_set_57 rfl ?_
            refine ew_ic1 (t := 124) dX0_set_123 rfl ?_
            refine ew_goto (t := 128) dX0_set_124 rfl ?_
            refine ew_istore_n (t := 129) (L' := [some (.ref 1), some (.int wh), some (.int v), some (.int 1), none]) dX0_set_128 rfl (Nat.le_of_ble_eq_true rfl) rfl rfl ?_
            refine ew_iload_n (t := 130) dX0_set_129 rfl rfl rfl ?_
            refine ew_if_ne (t := 135) (t2 := 133) dX0_set_130 rfl rfl (fun c_130 => ?_) (fun c_130 => ?_)
            · obtain ⟨j, -, hj, rfl⟩ := inI_nat (c := wh) (lo := 0) (hi := 7) (by omega) (by omega) (b2i_1.mp c_7)
              refine ew_aload_n (t := 136) dX0_set_135 rfl rfl rfl ?_
              refine ew_get (t := 139) (j := 0) (v := .ref 2) fcX0 x1 (Nat.le_of_ble_eq_true rfl) q255 rfl dX0_set_136 rfl ?_
              refine ew_getN (t := 142) (j := 0) (v := .ref 3) fcX1 xt.1 (Nat.le_of_ble_eq_true rfl) q127 rfl dX0_set_139 rfl ?_
              refine ew_iload_n (t := 143) dX0_set_142 rfl rfl rfl ?_
              refine ew_iald (t := 144) (j := j) (N := 8) xt.2.1 (vp_in_nI (by omega) (by omega)) (nI_clamp (by omega)) dX0_set_143 rfl ?_
              refine ew_istore (t := 146) (L' := [some (.ref 1), some (.int (nI j)), some (.int v), some (.int 1), some (.int ((F 34) j))]) dX0_set_144 (Nat.le_of_ble_eq_true rfl) rfl rfl ?_
              refine ew_aload_n (t := 147) dX0_set_146 rfl rfl rfl ?_
              refine ew_get (t := 150) (j := 0) (v := .ref 2) fcX0 x1 (Nat.le_of_ble_eq_true rfl) q255 rfl dX0_set_147 rfl ?_
              refine ew_getN (t := 153) (j := 0) (v := .ref 3) fcX1 xt.1 (Nat.le_of_ble_eq_true rfl) q127 rfl dX0_set_150 rfl ?_
              refine ew_iload_n (t := 154) dX0_set_153 rfl rfl rfl ?_
              refine ew_iload_n (t := 155) dX0_set_154 rfl rfl rfl ?_
              refine ew_iast (t := 156) (j := j) (N := 8) (h' := (hov h [(3, IA 8 (upd (F 34) j v))])) xt.2.1 (vp_in_nI (by omega) (by omega)) (nI_clamp (by omega)) dX0_set_155 hov_up0 rfl ?_
              refine ew_iload (t := 158) dX0_set_156 rfl rfl ?_
              exact ew_iret rfl dX0_set_158 (Nat.le_refl _) (Nat.le_refl _) (by rw [show setP sm F (nI j) v = (F 34 j, sm, va_up F 34 (upd (F 34) j v)) from by unfold setP; rw [show inL (nI j).toInt64 0 7 = inI (nI j) 0 7 from inL_I (nI j) 0 7, if_pos c_7, show setM (nI j) = 2 from by unfold setM; rw [if_pos c_12, if_pos c_27, if_neg (not_not_intro c_45)], show (if ¬ (nI j) = 2 then (0 : Int64) else 1) = 0 from if_pos c_27, show inL v.toInt64 0 (2 : Int32).toInt64 = inI v 0 2 from inL_I v 0 2, if_pos c_54, nI_clamp (n := j) (by omega)]]; exact XU.u34 xt)
            · exact absurd c_130 (by decide)
      · refine ew_iload_n (t := 31) dX0_set_30 rfl rfl rfl ?_
        refine ew_ic1 (t := 32) dX0_set_31 rfl ?_
        refine ew_bipush (t := 34) (v := 6) dX0_set_32 (by decide) rfl ?_
        refine ew_callS (t := 37) (As := [_, _, _]) (ax_isIn _ _ _) (lw_S q330 q331 q51 q332) naX0_isIn dX0_set_34 rfl (Nat.le_of_ble_eq_true rfl) (Nat.le_of_ble_eq_true rfl) (Nat.le_refl _) (Nat.le_refl _) (Nat.le_of_ble_eq_true rfl) rfl (qi ?_)
        refine ew_if_eq (t := 127) (t2 := 40) dX0_set_37 rfl rfl (fun c_37 => ?_) (fun c_37 => ?_)
        · refine ew_ic0 (t := 128) dX0_set_127 rfl ?_
          refine ew_istore_n (t := 129) (L' := [some (.ref 1), some (.int wh), some (.int v), some (.int 0), none]) dX0_set_128 rfl (Nat.le_of_ble_eq_true rfl) rfl rfl ?_
          refine ew_iload_n (t := 130) dX0_set_129 rfl rfl rfl ?_
          refine ew_if_ne (t := 135) (t2 := 133) dX0_set_130 rfl rfl (fun c_130 => ?_) (fun c_130 => ?_)
          · exact absurd c_130 (by decide)
          · refine ew_icm1 (t := 134) dX0_set_133 rfl ?_
            exact ew_iret rfl dX0_set_134 (Nat.le_refl _) (Nat.le_refl _) (by rw [show setP sm F wh v = (-1, sm, F) from by unfold setP; rw [show inL wh.toInt64 0 7 = inI wh 0 7 from inL_I wh 0 7, if_pos c_7, show setM wh = 6 from by unfold setM; rw [if_pos c_12, if_neg (not_not_intro c_27)], show (if ¬ wh = 2 then (0 : Int64) else 1) = 1 from if_neg (not_not_intro c_27), show inL v.toInt64 1 (6 : Int32).toInt64 = inI v 1 6 from inL_I v 1 6, if_neg (not_not_intro c_37)]]; exact XU.same xt)
        · refine ew_goto (t := 123) dX0_set_40 rfl ?_
          refine ew_ic1 (t := 124) dX0_set_123 rfl ?_
          refine ew_goto (t := 128) dX0_set_124 rfl ?_
          refine ew_istore_n (t := 129) (L' := [some (.ref 1), some (.int wh), some (.int v), some (.int 1), none]) dX0_set_128 rfl (Nat.le_of_ble_eq_true rfl) rfl rfl ?_
          refine ew_iload_n (t := 130) dX0_set_129 rfl rfl rfl ?_
          refine ew_if_ne (t := 135) (t2 := 133) dX0_set_130 rfl rfl (fun c_130 => ?_) (fun c_130 => ?_)
          · obtain ⟨j, -, hj, rfl⟩ := inI_nat (c := wh) (lo := 0) (hi := 7) (by omega) (by omega) (b2i_1.mp c_7)
            refine ew_aload_n (t := 136) dX0_set_135 rfl rfl rfl ?_
            refine ew_get (t := 139) (j := 0) (v := .ref 2) fcX0 x1 (Nat.le_of_ble_eq_true rfl) q255 rfl dX0_set_136 rfl ?_
            refine ew_getN (t := 142) (j := 0) (v := .ref 3) fcX1 xt.1 (Nat.le_of_ble_eq_true rfl) q127 rfl dX0_set_139 rfl ?_
            refine ew_iload_n (t := 143) dX0_set_142 rfl rfl rfl ?_
            refine ew_iald (t := 144) (j := j) (N := 8) xt.2.1 (vp_in_nI (by omega) (by omega)) (nI_clamp (by omega)) dX0_set_143 rfl ?_
            refine ew_istore (t := 146) (L' := [some (.ref 1), some (.int (nI j)), some (.int v), some (.int 1), some (.int ((F 34) j))]) dX0_set_144 (Nat.le_of_ble_eq_true rfl) rfl rfl ?_
            refine ew_aload_n (t := 147) dX0_set_146 rfl rfl rfl ?_
            refine ew_get (t := 150) (j := 0) (v := .ref 2) fcX0 x1 (Nat.le_of_ble_eq_true rfl) q255 rfl dX0_set_147 rfl ?_
            refine ew_getN (t := 153) (j := 0) (v := .ref 3) fcX1 xt.1 (Nat.le_of_ble_eq_true rfl) q127 rfl dX0_set_150 rfl ?_
            refine ew_iload_n (t := 154) dX0_set_153 rfl rfl rfl ?_
            refine ew_iload_n (t := 155) dX0_set_154 rfl rfl rfl ?_
            refine ew_iast (t := 156) (j := j) (N := 8) (h' := (hov h [(3, IA 8 (upd (F 34) j v))])) xt.2.1 (vp_in_nI (by omega) (by omega)) (nI_clamp (by omega)) dX0_set_155 hov_up0 rfl ?_
            refine ew_iload (t := 158) dX0_set_156 rfl rfl ?_
            exact ew_iret rfl dX0_set_158 (Nat.le_refl _) (Nat.le_refl _) (by rw [show setP sm F (nI j) v = (F 34 j, sm, va_up F 34 (upd (F 34) j v)) from by unfold setP; rw [show inL (nI j).toInt64 0 7 = inI (nI j) 0 7 from inL_I (nI j) 0 7, if_pos c_7, show setM (nI j) = 6 from by unfold setM; rw [if_pos c_12, if_neg (not_not_intro c_27)], show (if ¬ (nI j) = 2 then (0 : Int64) else 1) = 1 from if_neg (not_not_intro c_27), show inL v.toInt64 1 (6 : Int32).toInt64 = inI v 1 6 from inL_I v 1 6, if_pos c_37, nI_clamp (n := j) (by omega)]]; exact XU.u34 xt)
          · exact absurd c_130 (by decide)
    · refine ew_iload_n (t := 16) dX0_set_15 rfl rfl rfl ?_
      refine ew_callS (t := 19) (As := [_]) (ax_isCell  _) (lw_S q333 q334 q51 q335) naX0_isCell dX0_set_16 rfl (Nat.le_of_ble_eq_true rfl) (Nat.le_of_ble_eq_true rfl) (Nat.le_refl _) (Nat.le_refl _) (Nat.le_of_ble_eq_true rfl) rfl (qi ?_)
      refine ew_if_eq (t := 127) (t2 := 22) dX0_set_19 rfl rfl (fun c_19 => ?_) (fun c_19 => ?_)
      · refine ew_ic0 (t := 128) dX0_set_127 rfl ?_
        refine ew_istore_n (t := 129) (L' := [some (.ref 1), some (.int wh), some (.int v), some (.int 0), none]) dX0_set_128 rfl (Nat.le_of_ble_eq_true rfl) rfl rfl ?_
        refine ew_iload_n (t := 130) dX0_set_129 rfl rfl rfl ?_
        refine ew_if_ne (t := 135) (t2 := 133) dX0_set_130 rfl rfl (fun c_130 => ?_) (fun c_130 => ?_)
        · exact absurd c_130 (by decide)
        · refine ew_icm1 (t := 134) dX0_set_133 rfl ?_
          exact ew_iret rfl dX0_set_134 (Nat.le_refl _) (Nat.le_refl _) (by rw [show setP sm F wh v = (-1, sm, F) from by unfold setP; rw [show inL wh.toInt64 0 7 = inI wh 0 7 from inL_I wh 0 7, if_pos c_7, show setM wh = 99 from by unfold setM; rw [if_neg c_12], show (if ¬ wh = 2 then (0 : Int64) else 1) = 0 from if_pos (fun q => c_12 (by rw [q]; decide)), show inL v.toInt64 0 (99 : Int32).toInt64 = inI v 0 99 from inL_I v 0 99, if_neg (not_not_intro c_19)]]; exact XU.same xt)
      · refine ew_goto (t := 123) dX0_set_22 rfl ?_
        refine ew_ic1 (t := 124) dX0_set_123 rfl ?_
        refine ew_goto (t := 128) dX0_set_124 rfl ?_
        refine ew_istore_n (t := 129) (L' := [some (.ref 1), some (.int wh), some (.int v), some (.int 1), none]) dX0_set_128 rfl (Nat.le_of_ble_eq_true rfl) rfl rfl ?_
        refine ew_iload_n (t := 130) dX0_set_129 rfl rfl rfl ?_
        refine ew_if_ne (t := 135) (t2 := 133) dX0_set_130 rfl rfl (fun c_130 => ?_) (fun c_130 => ?_)
        · obtain ⟨j, -, hj, rfl⟩ := inI_nat (c := wh) (lo := 0) (hi := 7) (by omega) (by omega) (b2i_1.mp c_7)
          refine ew_aload_n (t := 136) dX0_set_135 rfl rfl rfl ?_
          refine ew_get (t := 139) (j := 0) (v := .ref 2) fcX0 x1 (Nat.le_of_ble_eq_true rfl) q255 rfl dX0_set_136 rfl ?_
          refine ew_getN (t := 142) (j := 0) (v := .ref 3) fcX1 xt.1 (Nat.le_of_ble_eq_true rfl) q127 rfl dX0_set_139 rfl ?_
          refine ew_iload_n (t := 143) dX0_set_142 rfl rfl rfl ?_
          refine ew_iald (t := 144) (j := j) (N := 8) xt.2.1 (vp_in_nI (by omega) (by omega)) (nI_clamp (by omega)) dX0_set_143 rfl ?_
          refine ew_istore (t := 146) (L' := [some (.ref 1), some (.int (nI j)), some (.int v), some (.int 1), some (.int ((F 34) j))]) dX0_set_144 (Nat.le_of_ble_eq_true rfl) rfl rfl ?_
          refine ew_aload_n (t := 147) dX0_set_146 rfl rfl rfl ?_
          refine ew_get (t := 150) (j := 0) (v := .ref 2) fcX0 x1 (Nat.le_of_ble_eq_true rfl) q255 rfl dX0_set_147 rfl ?_
          refine ew_getN (t := 153) (j := 0) (v := .ref 3) fcX1 xt.1 (Nat.le_of_ble_eq_true rfl) q127 rfl dX0_set_150 rfl ?_
          refine ew_iload_n (t := 154) dX0_set_153 rfl rfl rfl ?_
          refine ew_iload_n (t := 155) dX0_set_154 rfl rfl rfl ?_
          refine ew_iast (t := 156) (j := j) (N := 8) (h' := (hov h [(3, IA 8 (upd (F 34) j v))])) xt.2.1 (vp_in_nI (by omega) (by omega)) (nI_clamp (by omega)) dX0_set_155 hov_up0 rfl ?_
          refine ew_iload (t := 158) dX0_set_156 rfl rfl ?_
          exact ew_iret rfl dX0_set_158 (Nat.le_refl _) (Nat.le_refl _) (by rw [show setP sm F (nI j) v = (F 34 j, sm, va_up F 34 (upd (F 34) j v)) from by unfold setP; rw [show inL (nI j).toInt64 0 7 = inI (nI j) 0 7 from inL_I (nI j) 0 7, if_pos c_7, show setM (nI j) = 99 from by unfold setM; rw [if_neg c_12], show (if ¬ (nI j) = 2 then (0 : Int64) else 1) = 0 from if_pos (fun q => c_12 (by rw [q]; decide)), show inL v.toInt64 0 (99 : Int32).toInt64 = inI v 0 99 from inL_I v 0 99, if_pos c_19, nI_clamp (n := j) (by omega)]]; exact XU.u34 xt)
        · exact absurd c_130 (by decide)
