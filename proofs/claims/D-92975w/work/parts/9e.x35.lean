-- Obj fields dict_keys(['cls', 'fun', 'sname', 'refs', 'extra', 'ups'])
/-! the component: the four sheets; drop -/
set_option maxRecDepth 100000
/-- a row of a lane -/
def rwA (ln z : Nat) (f : Nat → Int32) : AC := match ln with
  | 0 => BA z f
  | 1 => SA z f
  | _ => IA z f
def shT : Nat → Option Nat := fun t => some (29 + t)
/-- the sheet t: without a row, or with the row at r -/
def SHt (F : Nat → Nat → Int32) (h : AH) (n t r : Nat) : Prop := (F 59 t < 0 ∧ h (29 + t) = some (OB 3 [.null])) ∨ ∃ (ln z : Nat) (f : Nat → Int32), ln < 3 ∧ z ≤ 16 ∧ F 59 t = nI ln ∧ F 60 t = nI z ∧ 63 ≤ r ∧ r < n ∧ h (29 + t) = some (OB 3 [.ref r]) ∧ h r = some (rwA ln z f) ∧ ∀ j, j < z → f j = F 61 (16 * t + j)
def SHx (F : Nat → Nat → Int32) (h : AH) (n : Nat) (rr : Nat → Nat) : Prop := h 28 = some (RS 4 shT) ∧ ∀ t, t < 4 → SHt F h n t (rr t)
theorem ax_sizeR {l : Launch} {G : GW} {h : AH} {n : Nat} {ln q r z : Nat} {f : Nat → Int32} (hl : ln < 3) (xq : h q = some (OB 3 [.ref r])) (xr_ : h r = some (rwA ln z f)) : AM l G yX3_size cX3_size 3 (some .int) 0 0 0 [.ref q] h n (Qi (nI z) h n) := by
  match ln, hl with
  | 0, _ => exact ax_size0 xq xr_
  | 1, _ => exact ax_size1 xq xr_
  | 2, _ => exact ax_size2 xq xr_
theorem ax_laneR {l : Launch} {G : GW} {h : AH} {n : Nat} {ln q r z : Nat} {f : Nat → Int32} (hl : ln < 3) (xq : h q = some (OB 3 [.ref r])) (xr_ : h r = some (rwA ln z f)) : AM l G yX3_lane cX3_lane 1 (some .int) 0 0 0 [.ref q] h n (Qi (nI ln) h n) := by
  match ln, hl with
  | 0, _ => exact ax_lane0 xq xr_
  | 1, _ => exact ax_lane1 xq xr_
  | 2, _ => exact ax_lane2 xq xr_
/-- an answer, and the sheets now -/
def XSQ (h : AH) (n : Nat) (rr : Nat → Nat) (p : OR) : Option Value → AH → Nat → Prop := fun r h' n' => r = some (.int p.1) ∧ n' = n ∧ SHx p.2.2 h' n rr ∧ (∀ k, ¬ (29 ≤ k ∧ k ≤ 32) → h' k = h k)
theorem SHt.off {F : Nat → Nat → Int32} {h : AH} {n t t2 r : Nat} (ht : t < 4) (ht2 : t2 < 4) (s : SHt F h n t2 r) : SHt (va_up F 59 (upd (F 59) t (-1))) (hov h [(29 + t, OB 3 [.null])]) n t2 r := by
  by_cases e : t2 = t
  · subst e
    exact Or.inl ⟨by show upd (F 59) t2 (-1) t2 < 0; rw [pk_us]; decide, hv_hit⟩
  · have e59 : va_up F 59 (upd (F 59) t (-1)) 59 t2 = F 59 t2 := by show upd (F 59) t (-1) t2 = _; rw [pk_un e]
    rcases s with ⟨q1, q2⟩ | ⟨ln, z, f, q1, q2, q3, q4, q5, q6, q7, q8, q9⟩
    · exact Or.inl ⟨by rw [e59]; exact q1, (hv_miss (by omega)).trans q2⟩
    · exact Or.inr ⟨ln, z, f, q1, q2, e59.trans q3, q4, q5, q6, (hv_miss (by omega)).trans q7, (hv_miss (by omega)).trans q8, q9⟩
set_option maxHeartbeats 600000 in
theorem xc_drop {l : Launch} {G : GW} {h : AH} {n : Nat} {s sm : Nat → Int32} {F : Nat → Nat → Int32} {rr : Nat → Nat} (x1 : h 1 = some (XO s)) (sh : SHx F h n rr) (c : Int32) : AM l G yX0_drop cX0_drop 3 (some .int) 2 0 0 [.ref 1, .int c] h n (XSQ h n rr (drpP sm F c)) := by
  refine AM.of (L := [some (.ref 1), some (.int c), none]) (by decide) (Nat.le_of_ble_eq_true rfl) rfl ?_
  refine ew_iload_n (t := 1) dX0_drop_0 rfl rfl rfl ?_
  refine ew_callS (t := 4) (As := [_]) (ax_isSheet  _) (lw_S q802 q803 q51 q804) naX0_isSheet dX0_drop_1 rfl (Nat.le_of_ble_eq_true rfl) (Nat.le_of_ble_eq_true rfl) (Nat.le_refl _) (Nat.le_refl _) (Nat.le_of_ble_eq_true rfl) rfl (qi ?_)
  refine ew_if_ne (t := 9) (t2 := 7) dX0_drop_4 rfl rfl (fun c_4 => ?_) (fun c_4 => ?_)
  · obtain ⟨t, -, ht, rfl⟩ := inI_nat (c := c) (lo := 0) (hi := 3) (by omega) (by omega) (b2i_1.mp c_4)
    replace ht : t < 4 := by omega
    rcases sh.2 t ht with ⟨q1, q2⟩ | ⟨ln, z, f, q1, q2, q3, q4, q5, q6, q7, q8, q9⟩
    · refine ew_aload_n (t := 10) dX0_drop_9 rfl rfl rfl ?_
      refine ew_get (t := 13) (j := 20) (v := .ref 28) fcX0 x1 (Nat.le_of_ble_eq_true rfl) q282 rfl dX0_drop_10 rfl ?_
      refine ew_iload_n (t := 14) dX0_drop_13 rfl rfl rfl ?_
      refine ew_aald6 (t := 15) (j := t) sh.1 (vp_in_nI ht (by omega)) (nI_clamp (by omega)) dX0_drop_14 rfl ?_
      rw [show va_rf (shT t) = .ref (29 + t) from rfl]
      refine ew_getN (t := 18) (j := 0) (v := .null) fcX3 q2 (Nat.le_of_ble_eq_true rfl) q248 rfl dX0_drop_15 rfl ?_
      refine ew_ifnonnullN (t := 21) dX0_drop_18 rfl ?_
      refine ew_bipush (t := 23) (v := (-11)) dX0_drop_21 (by decide) rfl ?_
      exact ew_iret rfl dX0_drop_23 (Nat.le_refl _) (Nat.le_refl _) (by rw [show drpP sm F (nI t) = (-11, sm, F) from by unfold drpP; rw [if_pos c_4, nI_clamp (n := t) (by omega), if_neg (Int32.not_le.mpr q1)]]; exact ⟨rfl, rfl, sh, fun _ _ => rfl⟩)
    · refine ew_aload_n (t := 10) dX0_drop_9 rfl rfl rfl ?_
      refine ew_get (t := 13) (j := 20) (v := .ref 28) fcX0 x1 (Nat.le_of_ble_eq_true rfl) q282 rfl dX0_drop_10 rfl ?_
      refine ew_iload_n (t := 14) dX0_drop_13 rfl rfl rfl ?_
      refine ew_aald6 (t := 15) (j := t) sh.1 (vp_in_nI ht (by omega)) (nI_clamp (by omega)) dX0_drop_14 rfl ?_
      rw [show va_rf (shT t) = .ref (29 + t) from rfl]
      refine ew_getN (t := 18) (j := 0) (v := .ref (rr t)) fcX3 q7 (Nat.le_of_ble_eq_true rfl) q248 rfl dX0_drop_15 rfl ?_
      refine ew_ifnonnull (t := 24) dX0_drop_18 rfl ?_
      refine ew_aload_n (t := 25) dX0_drop_24 rfl rfl rfl ?_
      refine ew_get (t := 28) (j := 20) (v := .ref 28) fcX0 x1 (Nat.le_of_ble_eq_true rfl) q282 rfl dX0_drop_25 rfl ?_
      refine ew_iload_n (t := 29) dX0_drop_28 rfl rfl rfl ?_
      refine ew_aald6 (t := 30) (j := t) sh.1 (vp_in_nI ht (by omega)) (nI_clamp (by omega)) dX0_drop_29 rfl ?_
      rw [show va_rf (shT t) = .ref (29 + t) from rfl]
      refine ew_callV (t := 33) (As := []) (ax_sizeR q1 q7 q8) (fcX3).1 q7 (lw_V q818 q819 q820 q59 q821) rfl naX3_size dX0_drop_30 rfl (Nat.le_of_ble_eq_true rfl) (Nat.le_of_ble_eq_true rfl) (Nat.le_refl _) (Nat.le_refl _) (Nat.le_of_ble_eq_true rfl) rfl (qi ?_)
      refine ew_istore_n (t := 34) (L' := [some (.ref 1), some (.int (nI t)), some (.int (nI z))]) dX0_drop_33 rfl (Nat.le_of_ble_eq_true rfl) rfl rfl ?_
      refine ew_aload_n (t := 35) dX0_drop_34 rfl rfl rfl ?_
      refine ew_get (t := 38) (j := 20) (v := .ref 28) fcX0 x1 (Nat.le_of_ble_eq_true rfl) q282 rfl dX0_drop_35 rfl ?_
      refine ew_iload_n (t := 39) dX0_drop_38 rfl rfl rfl ?_
      refine ew_aald6 (t := 40) (j := t) sh.1 (vp_in_nI ht (by omega)) (nI_clamp (by omega)) dX0_drop_39 rfl ?_
      rw [show va_rf (shT t) = .ref (29 + t) from rfl]
      refine ew_null (t := 41) dX0_drop_40 rfl ?_
      refine ew_putN (t := 44) (j := 0) (fs' := [.null]) (h' := (hov h [((29 + t), OB 3 [.null])])) fcX3 q7 (Nat.le_of_ble_eq_true rfl) rfl q248 rfl rfl (Nat.le_of_ble_eq_true rfl) rfl dX0_drop_41 hov_up0 rfl ?_
      refine ew_iload_n (t := 45) dX0_drop_44 rfl rfl rfl ?_
      exact ew_iret rfl dX0_drop_45 (Nat.le_refl _) (Nat.le_refl _) (by rw [show drpP sm F (nI t) = (nI z, sm, va_up F 59 (upd (F 59) t (-1))) from by unfold drpP; rw [if_pos c_4, nI_clamp (n := t) (by omega), if_pos (show 0 ≤ F 59 t by rw [q3]; exact nI_nn (by omega)), q4]]; exact ⟨rfl, rfl, ⟨(hv_miss (by omega)).trans sh.1, fun t2 ht2 => (sh.2 t2 ht2).off ht ht2⟩, fun k hk => hv_miss (by omega)⟩)
  · refine ew_icm1 (t := 8) dX0_drop_7 rfl ?_
    exact ew_iret rfl dX0_drop_8 (Nat.le_refl _) (Nat.le_refl _) (by rw [show drpP sm F c = (-1, sm, F) from if_neg (not_not_intro c_4)]; exact ⟨rfl, rfl, sh, fun _ _ => rfl⟩)
