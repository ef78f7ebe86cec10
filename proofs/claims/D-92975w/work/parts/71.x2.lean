-- Obj fields dict_keys(['cls', 'fun', 'sname', 'refs', 'extra', 'ups'])
/-! the component: Told.drift, drifted, Piece.fits, Drag.misses -/
set_option maxRecDepth 100000
theorem nI_nn {b : Nat} (h : b < 2 ^ 31) : (0 : Int32) ≤ nI b := nI_le (a := 0) (Nat.zero_le _) h
theorem nI_eq8 {u : Nat} (h : u ≤ 8) : nI u = 8 ↔ u = 8 := by
  refine ⟨fun e => ?_, fun e => by rw [e]; rfl⟩
  have := congrArg Int32.toNatClampNeg e
  rwa [nI_clamp (by omega), show (8 : Int32).toNatClampNeg = 8 from rfl] at this
theorem ge8 {u : Nat} (hu : u ≤ 8) (e : ¬ u = 8) : ¬ (8 : Int32) ≤ nI u := nI_ge (a := u) (b := 8) (by omega) (by omega)
theorem dr2_x {u b : Nat} (hu : u ≤ 8) (hb : b < 100) : (if 8 ≤ nI u then nI b else (if goneF (nI b) (nI u) 1 < 0 then nI b else goneF (nI b) (nI u) 1)) = dr2 (nI u) (nI b) := by
  unfold dr2 dr1
  by_cases e : u = 8
  · rw [if_pos (by rw [e]; decide), if_neg (not_not_intro ((nI_eq8 hu).mpr e)), if_pos (nI_nn (by omega))]
  · rw [if_neg (ge8 hu e), if_pos (fun q => e ((nI_eq8 hu).mp q))]
    by_cases c : goneF (nI b) (nI u) 1 < 0
    · rw [if_pos c, if_neg (Int32.not_le.mpr c)]
    · rw [if_neg c, if_pos (Int32.not_lt.mp c)]
theorem drift_x {u b b2 w : Nat} {hi : Int32} (hw : w ≤ 8) (hb2 : b2 < 100) (e2 : dr2 (nI u) (nI b) = nI b2) : (if hi = 0 then nI b2 else (if 8 ≤ nI w then nI b2 else (if goneF (nI b2) (nI w) 1 < 0 then nI b2 else goneF (nI b2) (nI w) 1))) = driftI (nI u) (nI w) hi (nI b) := by
  unfold driftI dr3
  rw [e2]
  by_cases c0 : hi = 0
  · rw [if_pos c0, if_pos c0, if_pos (nI_nn (by omega))]
  · rw [if_neg c0, if_neg c0]
    by_cases e : w = 8
    · rw [if_pos (by rw [e]; decide), if_neg (not_not_intro ((nI_eq8 hw).mpr e)), if_pos (nI_nn (by omega))]
    · rw [if_neg (ge8 hw e), if_pos (fun q => e ((nI_eq8 hw).mp q))]
      by_cases c : goneF (nI b2) (nI w) 1 < 0
      · rw [if_pos c, if_neg (Int32.not_le.mpr c)]
      · rw [if_neg c, if_pos (Int32.not_lt.mp c)]
set_option maxHeartbeats 4000000 in
theorem ax_tdrift {l : Launch} {G : GW} {h : AH} {n : Nat} {FS : Nat → Int32} (x2 : h 2 = some TO0) (x3 : h 3 = some (IA 8 FS)) {CU : Nat → Int32} (x6 : h 6 = some (BA 200 CU)) (hCU : ∀ j, j < 200 → ∃ u, u ≤ 8 ∧ CU j = nI u) (hW : ∃ w, w ≤ 8 ∧ FS 7 = nI w) {b k : Nat} {hi : Int32} (hb : b < 100) (hk : k < 100) : AM l G yX1_drift cX1_drift 6 (some .int) 2 0 0 [.ref 2, .int (nI b), .int (nI k), .int hi] h n (Qi (nI (drN CU (FS 7) hi k b)) h n) := by
  refine AM.of (L := [some (.ref 2), some (.int (nI b)), some (.int (nI k)), some (.int hi), none, none]) (by decide) (Nat.le_of_ble_eq_true rfl) rfl ?_
  refine ew_iload_n (t := 1) dX1_drift_0 rfl rfl rfl ?_
  refine ew_istore (t := 3) (L' := [some (.ref 2), some (.int (nI b)), some (.int (nI k)), some (.int hi), some (.int (nI b)), none]) dX1_drift_1 (Nat.le_of_ble_eq_true rfl) rfl rfl ?_
  refine ew_aload_n (t := 4) dX1_drift_3 rfl rfl rfl ?_
  refine ew_get (t := 7) (j := 3) (v := .ref 6) fcX1 x2 (Nat.le_of_ble_eq_true rfl) q132 rfl dX1_drift_4 rfl ?_
  refine ew_bipush (t := 9) (v := 100) dX1_drift_7 (by decide) rfl ?_
  refine ew_iload_n (t := 10) dX1_drift_9 rfl rfl rfl ?_
  refine ew_ic2 (t := 11) dX1_drift_10 rfl ?_
  refine ew_irem (t := 12) dX1_drift_11 (by decide) rfl ?_
  refine ew_imul (t := 13) dX1_drift_12 rfl ?_
  refine ew_iload_n (t := 14) dX1_drift_13 rfl rfl rfl ?_
  refine ew_iadd (t := 15) dX1_drift_14 rfl ?_
  refine ew_bald (t := 16) (j := (100 * (k % 2) + b)) (N := 200) x6 (by rw [ix_100 (by omega)]; exact vp_in_nI (by omega) (by omega)) (by rw [ix_100 (by omega)]; exact nI_clamp (by omega)) dX1_drift_15 rfl ?_
  obtain ⟨u, hu, eu⟩ := hCU (100 * (k % 2) + b) (by omega)
  obtain ⟨w, hw, ew⟩ := hW
  obtain ⟨b2, hb2, e2⟩ := dr2_cell (cu := nI u) hb
  rw [eu, ew]
  refine ew_istore (t := 18) (L' := [some (.ref 2), some (.int (nI b)), some (.int (nI k)), some (.int hi), some (.int (nI b)), some (.int (nI u))]) dX1_drift_16 (Nat.le_of_ble_eq_true rfl) rfl rfl ?_
  refine ew_iload (t := 20) dX1_drift_18 rfl rfl ?_
  refine ew_bipush (t := 22) (v := 8) dX1_drift_20 (by decide) rfl ?_
  have J46 : ∀ (j46_0 : Int32), j46_0 = ((if 8 ≤ (nI u) then (nI b) else (if (goneF (nI b) (nI u) 1) < 0 then (nI b) else (goneF (nI b) (nI u) 1))) : Int32) → EW l G yX1_drift cX1_drift 6 (some .int) 2 0 0 (Qi (nI (drN CU (nI w) hi k b)) h n) 0 0 h n 46 [some (.ref 2), some (.int (nI b)), some (.int (nI k)), some (.int hi), some (.int j46_0), some (.int (nI u))] [] := by
    intro j46_0 hj46_0
    rw [show j46_0 = nI b2 from hj46_0.trans ((dr2_x hu hb).trans e2)]
    refine ew_iload_n (t := 47) dX1_drift_46 rfl rfl rfl ?_
    have J93 : ∀ (j93_0 : Int32), j93_0 = ((if hi = 0 then (nI b2) else (if 8 ≤ (nI w) then (nI b2) else (if (goneF (nI b2) (nI w) 1) < 0 then (nI b2) else (goneF (nI b2) (nI w) 1)))) : Int32) → EW l G yX1_drift cX1_drift 6 (some .int) 2 0 0 (Qi (nI (drN CU (nI w) hi k b)) h n) 0 0 h n 93 [some (.ref 2), some (.int (nI b)), some (.int (nI k)), some (.int hi), some (.int j93_0), some (.int (nI u))] [] := by
      intro j93_0 hj93_0
      refine ew_iload (t := 95) dX1_drift_93 rfl rfl ?_
      exact ew_iret rfl dX1_drift_95 (Nat.le_refl _) (Nat.le_refl _) ⟨congrArg (fun z => some (Value.int z)) (by rw [hj93_0, ← (drN_s hb).1, eu]; exact drift_x hw hb2 e2), rfl, rfl⟩
    refine ew_if_eq (t := 93) (t2 := 50) dX1_drift_47 rfl rfl (fun c_47 => ?_) (fun c_47 => ?_)
    · exact J93 (nI b2) (by simp only [if_pos c_47])
    · refine ew_aload_n (t := 51) dX1_drift_50 rfl rfl rfl ?_
      refine ew_get (t := 54) (j := 0) (v := .ref 3) fcX1 x2 (Nat.le_of_ble_eq_true rfl) q125 rfl dX1_drift_51 rfl ?_
      refine ew_bipush (t := 56) (v := 7) dX1_drift_54 (by decide) rfl ?_
      refine ew_iald (t := 57) (j := 7) (N := 8) x3 (vpI (by decide)) (by decide) dX1_drift_56 rfl ?_
      rw [ew]
      refine ew_bipush (t := 59) (v := 8) dX1_drift_57 (by decide) rfl ?_
      refine ew_icmp_ge (t := 93) (t2 := 62) dX1_drift_59 rfl rfl (fun c_59 => ?_) (fun c_59 => ?_)
      · exact J93 (nI b2) (by simp only [if_neg c_47, if_pos c_59])
      · refine ew_iload (t := 64) dX1_drift_62 rfl rfl ?_
        refine ew_aload_n (t := 65) dX1_drift_64 rfl rfl rfl ?_
        refine ew_get (t := 68) (j := 0) (v := .ref 3) fcX1 x2 (Nat.le_of_ble_eq_true rfl) q125 rfl dX1_drift_65 rfl ?_
        refine ew_bipush (t := 70) (v := 7) dX1_drift_68 (by decide) rfl ?_
        refine ew_iald (t := 71) (j := 7) (N := 8) x3 (vpI (by decide)) (by decide) dX1_drift_70 rfl ?_
        rw [ew]
        refine ew_ic1 (t := 72) dX1_drift_71 rfl ?_
        refine ew_callSN (t := 75) (As := [_, _, _]) (ax_beyond _ _ (co := w) (Nat.lt_of_not_le (fun q => c_59 (nI_le (a := 8) q (by omega))))) q666 q430 q51 q431 naX0_beyond dX1_drift_72 rfl (Nat.le_of_ble_eq_true rfl) (Nat.le_of_ble_eq_true rfl) (Nat.le_refl _) (Nat.le_refl _) (Nat.le_of_ble_eq_true rfl) rfl (qi ?_)
        refine ew_if_lt (t := 93) (t2 := 78) dX1_drift_75 rfl rfl (fun c_75 => ?_) (fun c_75 => ?_)
        · exact J93 (nI b2) (by simp only [if_neg c_47, if_neg c_59, if_pos c_75])
        · refine ew_iload (t := 80) dX1_drift_78 rfl rfl ?_
          refine ew_aload_n (t := 81) dX1_drift_80 rfl rfl rfl ?_
          refine ew_get (t := 84) (j := 0) (v := .ref 3) fcX1 x2 (Nat.le_of_ble_eq_true rfl) q125 rfl dX1_drift_81 rfl ?_
          refine ew_bipush (t := 86) (v := 7) dX1_drift_84 (by decide) rfl ?_
          refine ew_iald (t := 87) (j := 7) (N := 8) x3 (vpI (by decide)) (by decide) dX1_drift_86 rfl ?_
          rw [ew]
          refine ew_ic1 (t := 88) dX1_drift_87 rfl ?_
          refine ew_callSN (t := 91) (As := [_, _, _]) (ax_beyond _ _ (co := w) (Nat.lt_of_not_le (fun q => c_59 (nI_le (a := 8) q (by omega))))) q666 q430 q51 q431 naX0_beyond dX1_drift_88 rfl (Nat.le_of_ble_eq_true rfl) (Nat.le_of_ble_eq_true rfl) (Nat.le_refl _) (Nat.le_refl _) (Nat.le_of_ble_eq_true rfl) rfl (qi ?_)
          refine ew_istore (t := 93) (L' := [some (.ref 2), some (.int (nI b)), some (.int (nI k)), some (.int hi), some (.int (goneF (nI b2) (nI w) 1)), some (.int (nI u))]) dX1_drift_91 (Nat.le_of_ble_eq_true rfl) rfl rfl ?_
          exact J93 (goneF (nI b2) (nI w) 1) (by simp only [if_neg c_47, if_neg c_59, if_neg c_75])
  refine ew_icmp_ge (t := 46) (t2 := 25) dX1_drift_22 rfl rfl (fun c_22 => ?_) (fun c_22 => ?_)
  · exact J46 (nI b) (by simp only [if_pos c_22])
  · refine ew_iload (t := 27) dX1_drift_25 rfl rfl ?_
    refine ew_iload (t := 29) dX1_drift_27 rfl rfl ?_
    refine ew_ic1 (t := 30) dX1_drift_29 rfl ?_
    refine ew_callSN (t := 33) (As := [_, _, _]) (ax_beyond _ _ (co := u) (Nat.lt_of_not_le (fun q => c_22 (nI_le (a := 8) q (by omega))))) q666 q430 q51 q431 naX0_beyond dX1_drift_30 rfl (Nat.le_of_ble_eq_true rfl) (Nat.le_of_ble_eq_true rfl) (Nat.le_refl _) (Nat.le_refl _) (Nat.le_of_ble_eq_true rfl) rfl (qi ?_)
    refine ew_if_lt (t := 46) (t2 := 36) dX1_drift_33 rfl rfl (fun c_33 => ?_) (fun c_33 => ?_)
    · exact J46 (nI b) (by simp only [if_neg c_22, if_pos c_33])
    · refine ew_iload (t := 38) dX1_drift_36 rfl rfl ?_
      refine ew_iload (t := 40) dX1_drift_38 rfl rfl ?_
      refine ew_ic1 (t := 41) dX1_drift_40 rfl ?_
      refine ew_callSN (t := 44) (As := [_, _, _]) (ax_beyond _ _ (co := u) (Nat.lt_of_not_le (fun q => c_22 (nI_le (a := 8) q (by omega))))) q666 q430 q51 q431 naX0_beyond dX1_drift_41 rfl (Nat.le_of_ble_eq_true rfl) (Nat.le_of_ble_eq_true rfl) (Nat.le_refl _) (Nat.le_refl _) (Nat.le_of_ble_eq_true rfl) rfl (qi ?_)
      refine ew_istore (t := 46) (L' := [some (.ref 2), some (.int (nI b)), some (.int (nI k)), some (.int hi), some (.int (goneF (nI b) (nI u) 1)), some (.int (nI u))]) dX1_drift_44 (Nat.le_of_ble_eq_true rfl) rfl rfl ?_
      exact J46 (goneF (nI b) (nI u) 1) (by simp only [if_neg c_22, if_neg c_33])
set_option maxHeartbeats 4000000 in
theorem lx_drifted {l : Launch} {G : GW} {h : AH} {n : Nat} {s : Nat → Int32} (x1 : h 1 = some (XO s)) {FS : Nat → Int32} (x2 : h 2 = some TO0) (x3 : h 3 = some (IA 8 FS)) {CU : Nat → Int32} (x6 : h 6 = some (BA 200 CU)) (hCU : ∀ j, j < 200 → ∃ u, u ≤ 8 ∧ CU j = nI u) (hW : ∃ w, w ≤ 8 ∧ FS 7 = nI w) {b N : Nat} {hi : Int32} {o1 : Option Value} (hh : hi = 0 ∨ hi = 1) (hb : b < 100) (hN : N < 100) : ∀ (f k : Nat), k + f = N → EW l G yX0_drifted cX0_drifted 6 (some .int) 3 0 0 (Qi (nI (drIt CU (FS 7) hi b N)) h n) 0 0 h n 6 [some (.ref 1), o1, some (.int (nI N)), some (.int hi), some (.int (nI (drIt CU (FS 7) hi b k))), some (.int (nI k))] [] := by
  intro f
  induction f with
  | zero =>
    intro k  hk
    refine ew_iload (t := 8) dX0_drifted_6 rfl rfl ?_
    refine ew_iload_n (t := 9) dX0_drifted_8 rfl rfl rfl ?_
    refine ew_icmp_ge (t := 41) (t2 := 12) dX0_drifted_9 rfl rfl (fun c_9 => ?_) (fun c_9 => ?_)
    · refine ew_iload (t := 43) dX0_drifted_41 rfl rfl ?_
      exact ew_iret rfl dX0_drifted_43 (Nat.le_refl _) (Nat.le_refl _) ⟨by rw [show k = N by omega], rfl, rfl⟩
    · exact absurd c_9 (by rw [show k = N by omega]; exact not_not_intro (Int32.le_refl _))
  | succ f ih =>
    intro k  hk
    refine ew_iload (t := 8) dX0_drifted_6 rfl rfl ?_
    refine ew_iload_n (t := 9) dX0_drifted_8 rfl rfl rfl ?_
    refine ew_icmp_ge (t := 41) (t2 := 12) dX0_drifted_9 rfl rfl (fun c_9 => ?_) (fun c_9 => ?_)
    · exact absurd c_9 (nI_ge (by omega) (by omega))
    · refine ew_aload_n (t := 13) dX0_drifted_12 rfl rfl rfl ?_
      refine ew_get (t := 16) (j := 0) (v := .ref 2) fcX0 x1 (Nat.le_of_ble_eq_true rfl) q255 rfl dX0_drifted_13 rfl ?_
      refine ew_iload (t := 18) dX0_drifted_16 rfl rfl ?_
      refine ew_iload (t := 20) dX0_drifted_18 rfl rfl ?_
      refine ew_iload_n (t := 21) dX0_drifted_20 rfl rfl rfl ?_
      refine ew_ic1 (t := 22) dX0_drifted_21 rfl ?_
      have J30 : ∀ (j30_0 : Int32), j30_0 = ((if ¬ hi = 1 then 0 else 1) : Int32) → EW l G yX0_drifted cX0_drifted 6 (some .int) 3 0 0 (Qi (nI (drIt CU (FS 7) hi b N)) h n) 0 0 h n 30 [some (.ref 1), o1, some (.int (nI N)), some (.int hi), some (.int (nI (drIt CU (FS 7) hi b k))), some (.int (nI k))] [.int j30_0, .int (nI k), .int (nI (drIt CU (FS 7) hi b k)), .ref 2] := by
        intro j30_0 hj30_0
        rw [show j30_0 = hi from hj30_0.trans (by rcases hh with e | e <;> (rw [e]; decide))]
        refine ew_callV (t := 33) (As := [_, _, _]) (ax_tdrift (h := h) x2 x3 x6 hCU hW (drIt_lt hb k) (by omega)) (fcX1).1 x2 (lw_V q662 q663 q664 q52 q665) rfl naX1_drift dX0_drifted_30 rfl (Nat.le_of_ble_eq_true rfl) (Nat.le_of_ble_eq_true rfl) (Nat.le_refl _) (Nat.le_refl _) (Nat.le_of_ble_eq_true rfl) rfl (qi ?_)
        refine ew_istore (t := 35) (L' := [some (.ref 1), o1, some (.int (nI N)), some (.int hi), some (.int (nI (drN CU (FS 7) hi k (drIt CU (FS 7) hi b k)))), some (.int (nI k))]) dX0_drifted_33 (Nat.le_of_ble_eq_true rfl) rfl rfl ?_
        refine ew_iinc (t := 38) (x := (nI k)) (v := ((nI k) + 1)) (L' := [some (.ref 1), o1, some (.int (nI N)), some (.int hi), some (.int (nI (drN CU (FS 7) hi k (drIt CU (FS 7) hi b k)))), some (.int ((nI k) + 1))]) dX0_drifted_35 rfl rfl (Nat.le_of_ble_eq_true rfl) rfl rfl ?_
        refine ew_goto (t := 6) dX0_drifted_38 rfl ?_
        rw [nI_1]
        exact ih (k + 1) (by omega)
      refine ew_icmp_ne (t := 29) (t2 := 25) dX0_drifted_22 rfl rfl (fun c_22 => ?_) (fun c_22 => ?_)
      · refine ew_ic0 (t := 30) dX0_drifted_29 rfl ?_
        exact J30 0 (by simp only [if_pos c_22])
      · refine ew_ic1 (t := 26) dX0_drifted_25 rfl ?_
        refine ew_goto (t := 30) dX0_drifted_26 rfl ?_
        exact J30 1 (by simp only [if_neg (not_not_intro c_22)])
set_option maxHeartbeats 4000000 in
theorem ax_drifted {l : Launch} {G : GW} {h : AH} {n : Nat} {s : Nat → Int32} (x1 : h 1 = some (XO s)) {FS : Nat → Int32} (x2 : h 2 = some TO0) (x3 : h 3 = some (IA 8 FS)) {CU : Nat → Int32} (x6 : h 6 = some (BA 200 CU)) (hCU : ∀ j, j < 200 → ∃ u, u ≤ 8 ∧ CU j = nI u) (hW : ∃ w, w ≤ 8 ∧ FS 7 = nI w) {b N : Nat} {hi : Int32} (hh : hi = 0 ∨ hi = 1) (hb : b < 100) (hN : N < 100) : AM l G yX0_drifted cX0_drifted 6 (some .int) 3 0 0 [.ref 1, .int (nI b), .int (nI N), .int hi] h n (Qi (nI (drIt CU (FS 7) hi b N)) h n) := by
  refine AM.of (L := [some (.ref 1), some (.int (nI b)), some (.int (nI N)), some (.int hi), none, none]) (by decide) (Nat.le_of_ble_eq_true rfl) rfl ?_
  refine ew_iload_n (t := 1) dX0_drifted_0 rfl rfl rfl ?_
  refine ew_istore (t := 3) (L' := [some (.ref 1), some (.int (nI b)), some (.int (nI N)), some (.int hi), some (.int (nI b)), none]) dX0_drifted_1 (Nat.le_of_ble_eq_true rfl) rfl rfl ?_
  refine ew_ic0 (t := 4) dX0_drifted_3 rfl ?_
  refine ew_istore (t := 6) (L' := [some (.ref 1), some (.int (nI b)), some (.int (nI N)), some (.int hi), some (.int (nI b)), some (.int 0)]) dX0_drifted_4 (Nat.le_of_ble_eq_true rfl) rfl rfl ?_
  exact lx_drifted x1 x2 x3 x6 hCU hW hh hb hN N 0 (by omega)
theorem ab1 : ∀ x, x < 10 → ∀ y, y < 10 → ((1 < (if 0 ≤ nI x - nI y then nI x - nI y else 0 - (nI x - nI y))) ↔ ¬ (inL (nI x - nI y).toInt64 (-1) 1 = true)) := by decide +kernel
theorem fit_x {wm : Bool} {c c0 : Nat} (hc : c < 100) (hc0 : c0 < 100) : fitI wm (nI c) (nI c0) = if ¬ b2i wm = 0 then (if ¬ nI c = nI c0 then (if besI (nI c) (nI c0) = 0 then 0 else 1) else 4) else 0 := by
  unfold fitI besI
  rw [nI_d10 (a := c) (by omega), nI_d10 (a := c0) (by omega)]
  rw [show nI c - nI (c / 10) * 10 = nI (c % 10) from by rw [← nI_d10 (a := c) (by omega)]; exact nI_r10 (by omega), show nI c0 - nI (c0 / 10) * 10 = nI (c0 % 10) from by rw [← nI_d10 (a := c0) (by omega)]; exact nI_r10 (by omega)]
  have a1 := ab1 (c / 10) (by omega) (c0 / 10) (by omega)
  have a2 := ab1 (c % 10) (by omega) (c0 % 10) (by omega)
  cases wm with
  | false => rfl
  | true =>
    rw [if_pos rfl, if_pos (show ¬ b2i true = 0 by decide)]
    by_cases e : nI c = nI c0
    · have ec : c = c0 := by have := congrArg Int32.toNatClampNeg e; rwa [nI_clamp (by omega), nI_clamp (by omega)] at this
      subst ec
      rw [if_neg (not_not_intro rfl), if_pos (by rw [Int32.sub_self]; decide), if_pos (by rw [Int32.sub_self]; decide), if_neg (not_not_intro rfl)]
    · rw [if_pos e, if_neg e]
      by_cases h1 : inL (nI (c / 10) - nI (c0 / 10)).toInt64 (-1) 1 = true
      · rw [if_pos h1, if_neg (fun z => a1.mp z h1)]
        by_cases h2 : inL (nI (c % 10) - nI (c0 % 10)).toInt64 (-1) 1 = true
        · rw [if_pos h2, if_neg (fun z => a2.mp z h2), if_pos e, if_neg (by decide)]
        · rw [if_neg h2, if_pos (a2.mpr h2), if_pos e, if_pos rfl]
      · rw [if_neg h1, if_pos (a1.mpr h1), if_pos e, if_pos rfl]
set_option maxHeartbeats 4000000 in
theorem lx_fits {l : Launch} {G : GW} {h : AH} {n : Nat} {Q : Option Value → AH → Nat → Prop} {FS : Nat → Int32} (x2 : h 2 = some TO0) (x3 : h 3 = some (IA 8 FS)) {CU : Nat → Int32} (x6 : h 6 = some (BA 200 CU)) (hCU : ∀ j, j < 200 → ∃ u, u ≤ 8 ∧ CU j = nI u) (hW : ∃ w, w ≤ 8 ∧ FS 7 = nI w) {WA P : Nat → Int32} (x7 : h 7 = some (BA 200 WA)) {pp i b N c0 : Nat} (xp : h pp = some (OB 8 [.int (P i), .int (P (i + 1)), .int (P (i + 2)), .int (P (i + 3)), .int (P (i + 4))])) (hb : b < 100) (hN : N < 100) (hN1 : P (i + 1) = nI N) (hc0 : c0 < 100) (hP0 : P i = nI c0) (kk : EW l G yX9_fits cX9_fits 6 (some .int) 3 0 0 Q 0 0 h n 80 [some (.ref pp), some (.ref 2), some (.int (nI b)), some (.int (nI (drIt CU (FS 7) (P (i + 2)) b N))), some (.int (b2i (wmF P CU WA (FS 7) i b N))), some (.int (nI N))] []) : ∀ (f k : Nat), k + f = N → EW l G yX9_fits cX9_fits 6 (some .int) 3 0 0 Q 0 0 h n 8 [some (.ref pp), some (.ref 2), some (.int (nI b)), some (.int (nI (drIt CU (FS 7) (P (i + 2)) b k))), some (.int (b2i (wmF P CU WA (FS 7) i b k))), some (.int (nI k))] [] := by
  intro f
  induction f with
  | zero =>
    intro k  hk
    refine ew_iload (t := 10) dX9_fits_8 rfl rfl ?_
    refine ew_aload_n (t := 11) dX9_fits_10 rfl rfl rfl ?_
    refine ew_get (t := 14) (j := 1) (v := .int (P (i + 1))) fcX9 xp (Nat.le_of_ble_eq_true rfl) q573 rfl dX9_fits_11 rfl ?_
    rw [hN1]
    refine ew_icmp_ge (t := 80) (t2 := 17) dX9_fits_14 rfl rfl (fun c_14 => ?_) (fun c_14 => ?_)
    · have ek : k = N := by omega
      subst ek
      exact kk
    · exact absurd c_14 (by rw [show k = N by omega]; exact not_not_intro (Int32.le_refl _))
  | succ f ih =>
    intro k  hk
    refine ew_iload (t := 10) dX9_fits_8 rfl rfl ?_
    refine ew_aload_n (t := 11) dX9_fits_10 rfl rfl rfl ?_
    refine ew_get (t := 14) (j := 1) (v := .int (P (i + 1))) fcX9 xp (Nat.le_of_ble_eq_true rfl) q573 rfl dX9_fits_11 rfl ?_
    rw [hN1]
    refine ew_icmp_ge (t := 80) (t2 := 17) dX9_fits_14 rfl rfl (fun c_14 => ?_) (fun c_14 => ?_)
    · exact absurd c_14 (nI_ge (by omega) (by omega))
    · refine ew_iload (t := 19) dX9_fits_17 rfl rfl ?_
      refine ew_iload (t := 21) dX9_fits_19 rfl rfl ?_
      refine ew_aload_n (t := 22) dX9_fits_21 rfl rfl rfl ?_
      refine ew_get (t := 25) (j := 1) (v := .int (P (i + 1))) fcX9 xp (Nat.le_of_ble_eq_true rfl) q573 rfl dX9_fits_22 rfl ?_
      refine ew_aload_n (t := 26) dX9_fits_25 rfl rfl rfl ?_
      refine ew_get (t := 29) (j := 3) (v := .int (P (i + 3))) fcX9 xp (Nat.le_of_ble_eq_true rfl) q575 rfl dX9_fits_26 rfl ?_
      refine ew_isub (t := 30) dX9_fits_29 rfl ?_
      have J59 : ∀ (j59_0 : Int32), j59_0 = ((if (nI k) < ((P (i + 1)) - (P (i + 3))) then 1 else (if (WA (100 * (k % 2) + (drIt CU (FS 7) (P (i + 2)) b k))) < (P (i + 4)) then 0 else 1)) : Int32) → EW l G yX9_fits cX9_fits 6 (some .int) 3 0 0 Q 0 0 h n 59 [some (.ref pp), some (.ref 2), some (.int (nI b)), some (.int (nI (drIt CU (FS 7) (P (i + 2)) b k))), some (.int (b2i (wmF P CU WA (FS 7) i b k))), some (.int (nI k))] [.int j59_0, .int (b2i (wmF P CU WA (FS 7) i b k))] := by
        intro j59_0 hj59_0
        refine ew_iand (t := 60) dX9_fits_59 rfl ?_
        rw [show b2i (wmF P CU WA (FS 7) i b k) &&& j59_0 = b2i (wmF P CU WA (FS 7) i b (k + 1)) from by rw [hj59_0]; show _ = b2i (if _ then _ else _); cases wmF P CU WA (FS 7) i b k <;> (repeat' split) <;> first | rfl | (exfalso; simp_all)]
        refine ew_istore (t := 62) (L' := [some (.ref pp), some (.ref 2), some (.int (nI b)), some (.int (nI (drIt CU (FS 7) (P (i + 2)) b k))), some (.int (b2i (wmF P CU WA (FS 7) i b (k + 1)))), some (.int (nI k))]) dX9_fits_60 (Nat.le_of_ble_eq_true rfl) rfl rfl ?_
        refine ew_aload_n (t := 63) dX9_fits_62 rfl rfl rfl ?_
        refine ew_iload_n (t := 64) dX9_fits_63 rfl rfl rfl ?_
        refine ew_iload (t := 66) dX9_fits_64 rfl rfl ?_
        refine ew_aload_n (t := 67) dX9_fits_66 rfl rfl rfl ?_
        refine ew_get (t := 70) (j := 2) (v := .int (P (i + 2))) fcX9 xp (Nat.le_of_ble_eq_true rfl) q574 rfl dX9_fits_67 rfl ?_
        refine ew_callV (t := 73) (As := [_, _, _]) (ax_tdrift (h := h) x2 x3 x6 hCU hW (drIt_lt hb k) (by omega)) (fcX1).1 x2 (lw_V q694 q663 q664 q52 q665) rfl naX1_drift dX9_fits_70 rfl (Nat.le_of_ble_eq_true rfl) (Nat.le_of_ble_eq_true rfl) (Nat.le_refl _) (Nat.le_refl _) (Nat.le_of_ble_eq_true rfl) rfl (qi ?_)
        refine ew_istore_n (t := 74) (L' := [some (.ref pp), some (.ref 2), some (.int (nI b)), some (.int (nI (drN CU (FS 7) (P (i + 2)) k (drIt CU (FS 7) (P (i + 2)) b k)))), some (.int (b2i (wmF P CU WA (FS 7) i b (k + 1)))), some (.int (nI k))]) dX9_fits_73 rfl (Nat.le_of_ble_eq_true rfl) rfl rfl ?_
        refine ew_iinc (t := 77) (x := (nI k)) (v := ((nI k) + 1)) (L' := [some (.ref pp), some (.ref 2), some (.int (nI b)), some (.int (nI (drN CU (FS 7) (P (i + 2)) k (drIt CU (FS 7) (P (i + 2)) b k)))), some (.int (b2i (wmF P CU WA (FS 7) i b (k + 1)))), some (.int ((nI k) + 1))]) dX9_fits_74 rfl rfl (Nat.le_of_ble_eq_true rfl) rfl rfl ?_
        refine ew_goto (t := 8) dX9_fits_77 rfl ?_
        rw [nI_1]
        exact ih (k + 1) (by omega)
      refine ew_icmp_lt (t := 54) (t2 := 33) dX9_fits_30 rfl rfl (fun c_30 => ?_) (fun c_30 => ?_)
      · refine ew_ic1 (t := 55) dX9_fits_54 rfl ?_
        refine ew_goto (t := 59) dX9_fits_55 rfl ?_
        exact J59 1 (by simp only [if_pos c_30])
      · refine ew_aload_n (t := 34) dX9_fits_33 rfl rfl rfl ?_
        refine ew_getN (t := 37) (j := 4) (v := .ref 7) fcX1 x2 (Nat.le_of_ble_eq_true rfl) q135 rfl dX9_fits_34 rfl ?_
        refine ew_bipush (t := 39) (v := 100) dX9_fits_37 (by decide) rfl ?_
        refine ew_iload (t := 41) dX9_fits_39 rfl rfl ?_
        refine ew_ic2 (t := 42) dX9_fits_41 rfl ?_
        refine ew_irem (t := 43) dX9_fits_42 (by decide) rfl ?_
        refine ew_imul (t := 44) dX9_fits_43 rfl ?_
        refine ew_iload_n (t := 45) dX9_fits_44 rfl rfl rfl ?_
        refine ew_iadd (t := 46) dX9_fits_45 rfl ?_
        refine ew_bald (t := 47) (j := (100 * (k % 2) + (drIt CU (FS 7) (P (i + 2)) b k))) (N := 200) x7 (by rw [ix_100 (by omega)]; exact vp_in_nI (by have := drIt_lt (CU := CU) (wd := FS 7) (hi := P (i + 2)) hb k; omega) (by omega)) (by rw [ix_100 (by omega)]; exact nI_clamp (by have := drIt_lt (CU := CU) (wd := FS 7) (hi := P (i + 2)) hb k; omega)) dX9_fits_46 rfl ?_
        refine ew_aload_n (t := 48) dX9_fits_47 rfl rfl rfl ?_
        refine ew_get (t := 51) (j := 4) (v := .int (P (i + 4))) fcX9 xp (Nat.le_of_ble_eq_true rfl) q576 rfl dX9_fits_48 rfl ?_
        refine ew_icmp_lt (t := 58) (t2 := 54) dX9_fits_51 rfl rfl (fun c_51 => ?_) (fun c_51 => ?_)
        · refine ew_ic0 (t := 59) dX9_fits_58 rfl ?_
          exact J59 0 (by simp only [if_neg c_30, if_pos c_51])
        · refine ew_ic1 (t := 55) dX9_fits_54 rfl ?_
          refine ew_goto (t := 59) dX9_fits_55 rfl ?_
          exact J59 1 (by simp only [if_neg c_30, if_neg c_51])
set_option maxHeartbeats 4000000 in
theorem ax_fits {l : Launch} {G : GW} {h : AH} {n : Nat} {FS : Nat → Int32} (x2 : h 2 = some TO0) (x3 : h 3 = some (IA 8 FS)) {CU : Nat → Int32} (x6 : h 6 = some (BA 200 CU)) (hCU : ∀ j, j < 200 → ∃ u, u ≤ 8 ∧ CU j = nI u) (hW : ∃ w, w ≤ 8 ∧ FS 7 = nI w) {WA P : Nat → Int32} (x7 : h 7 = some (BA 200 WA)) {pp i b N c0 : Nat} (xp : h pp = some (OB 8 [.int (P i), .int (P (i + 1)), .int (P (i + 2)), .int (P (i + 3)), .int (P (i + 4))])) (hb : b < 100) (hN : N < 100) (hN1 : P (i + 1) = nI N) (hc0 : c0 < 100) (hP0 : P i = nI c0) : AM l G yX9_fits cX9_fits 6 (some .int) 3 0 0 [.ref pp, .ref 2, .int (nI b)] h n (Qi (fitF P CU WA (FS 7) i b) h n) := by
  refine AM.of (L := [some (.ref pp), some (.ref 2), some (.int (nI b)), none, none, none]) (by decide) (Nat.le_of_ble_eq_true rfl) rfl ?_
  refine ew_iload_n (t := 1) dX9_fits_0 rfl rfl rfl ?_
  refine ew_istore_n (t := 2) (L' := [some (.ref pp), some (.ref 2), some (.int (nI b)), some (.int (nI b)), none, none]) dX9_fits_1 rfl (Nat.le_of_ble_eq_true rfl) rfl rfl ?_
  refine ew_ic1 (t := 3) dX9_fits_2 rfl ?_
  refine ew_istore (t := 5) (L' := [some (.ref pp), some (.ref 2), some (.int (nI b)), some (.int (nI b)), some (.int 1), none]) dX9_fits_3 (Nat.le_of_ble_eq_true rfl) rfl rfl ?_
  refine ew_ic0 (t := 6) dX9_fits_5 rfl ?_
  refine ew_istore (t := 8) (L' := [some (.ref pp), some (.ref 2), some (.int (nI b)), some (.int (nI b)), some (.int 1), some (.int 0)]) dX9_fits_6 (Nat.le_of_ble_eq_true rfl) rfl rfl ?_
  refine lx_fits (N := N) x2 x3 x6 hCU hW x7 xp hb hN hN1 hc0 hP0 ?_ N 0 (by omega)
  refine ew_iload (t := 82) dX9_fits_80 rfl rfl ?_
  refine ew_if_ne (t := 89) (t2 := 85) dX9_fits_82 rfl rfl (fun c_82 => ?_) (fun c_82 => ?_)
  · refine ew_iload_n (t := 90) dX9_fits_89 rfl rfl rfl ?_
    refine ew_aload_n (t := 91) dX9_fits_90 rfl rfl rfl ?_
    refine ew_get (t := 94) (j := 0) (v := .int (P i)) fcX9 xp (Nat.le_of_ble_eq_true rfl) q572 rfl dX9_fits_91 rfl ?_
    rw [hP0]
    refine ew_icmp_ne (t := 101) (t2 := 97) dX9_fits_94 rfl rfl (fun c_94 => ?_) (fun c_94 => ?_)
    · refine ew_iload_n (t := 102) dX9_fits_101 rfl rfl rfl ?_
      refine ew_aload_n (t := 103) dX9_fits_102 rfl rfl rfl ?_
      refine ew_get (t := 106) (j := 0) (v := .int (P i)) fcX9 xp (Nat.le_of_ble_eq_true rfl) q572 rfl dX9_fits_103 rfl ?_
      rw [hP0]
      refine ew_callSN (t := 109) (As := [_, _]) (ax_areBeside _ _) q695 q696 q51 q697 naX0_areBeside dX9_fits_106 rfl (Nat.le_of_ble_eq_true rfl) (Nat.le_of_ble_eq_true rfl) (Nat.le_refl _) (Nat.le_refl _) (Nat.le_of_ble_eq_true rfl) rfl (qi ?_)
      refine ew_if_eq (t := 116) (t2 := 112) dX9_fits_109 rfl rfl (fun c_109 => ?_) (fun c_109 => ?_)
      · refine ew_ic0 (t := 117) dX9_fits_116 rfl ?_
        exact ew_iret rfl dX9_fits_117 (Nat.le_refl _) (Nat.le_refl _) ⟨congrArg (fun z => some (Value.int z)) (by unfold fitF; rw [hN1, nI_clamp (n := N) (by omega), hP0, fit_x (drIt_lt hb N) hc0, if_pos c_82, if_pos c_94, if_pos c_109]), rfl, rfl⟩
      · refine ew_ic1 (t := 113) dX9_fits_112 rfl ?_
        refine ew_goto (t := 117) dX9_fits_113 rfl ?_
        exact ew_iret rfl dX9_fits_117 (Nat.le_refl _) (Nat.le_refl _) ⟨congrArg (fun z => some (Value.int z)) (by unfold fitF; rw [hN1, nI_clamp (n := N) (by omega), hP0, fit_x (drIt_lt hb N) hc0, if_pos c_82, if_pos c_94, if_neg c_109]), rfl, rfl⟩
    · refine ew_ic4 (t := 98) dX9_fits_97 rfl ?_
      refine ew_goto (t := 117) dX9_fits_98 rfl ?_
      exact ew_iret rfl dX9_fits_117 (Nat.le_refl _) (Nat.le_refl _) ⟨congrArg (fun z => some (Value.int z)) (by unfold fitF; rw [hN1, nI_clamp (n := N) (by omega), hP0, fit_x (drIt_lt hb N) hc0, if_pos c_82, if_neg (not_not_intro c_94)]), rfl, rfl⟩
  · refine ew_ic0 (t := 86) dX9_fits_85 rfl ?_
    refine ew_goto (t := 117) dX9_fits_86 rfl ?_
    exact ew_iret rfl dX9_fits_117 (Nat.le_refl _) (Nat.le_refl _) ⟨congrArg (fun z => some (Value.int z)) (by unfold fitF; rw [hN1, nI_clamp (n := N) (by omega), hP0, fit_x (drIt_lt hb N) hc0, if_neg (not_not_intro c_82)]), rfl, rfl⟩
set_option maxHeartbeats 4000000 in
theorem ax_misses {l : Launch} {G : GW} {h : AH} {n : Nat} {pp : Nat} {dc db : Int32} (xp : h pp = some (OB 9 [.int dc, .int db])) (c : Int32) : AM l G yX10_misses cX10_misses 2 (some .int) 0 0 0 [.ref pp, .int c] h n (Qi (if ¬ c = dc then 8 else 8 - db) h n) := by
  refine AM.of (L := [some (.ref pp), some (.int c)]) (by decide) (Nat.le_of_ble_eq_true rfl) rfl ?_
  refine ew_iload_n (t := 1) dX10_misses_0 rfl rfl rfl ?_
  refine ew_aload_n (t := 2) dX10_misses_1 rfl rfl rfl ?_
  refine ew_get (t := 5) (j := 0) (v := .int dc) fcX10 xp (Nat.le_of_ble_eq_true rfl) q708 rfl dX10_misses_2 rfl ?_
  refine ew_icmp_ne (t := 18) (t2 := 8) dX10_misses_5 rfl rfl (fun c_5 => ?_) (fun c_5 => ?_)
  · refine ew_bipush (t := 20) (v := 8) dX10_misses_18 (by decide) rfl ?_
    exact ew_iret rfl dX10_misses_20 (Nat.le_refl _) (Nat.le_refl _) ⟨by rw [if_pos c_5], rfl, rfl⟩
  · refine ew_bipush (t := 10) (v := 8) dX10_misses_8 (by decide) rfl ?_
    refine ew_aload_n (t := 11) dX10_misses_10 rfl rfl rfl ?_
    refine ew_get (t := 14) (j := 1) (v := .int db) fcX10 xp (Nat.le_of_ble_eq_true rfl) q710 rfl dX10_misses_11 rfl ?_
    refine ew_isub (t := 15) dX10_misses_14 rfl ?_
    refine ew_goto (t := 20) dX10_misses_15 rfl ?_
    exact ew_iret rfl dX10_misses_20 (Nat.le_refl _) (Nat.le_refl _) ⟨by rw [if_neg (not_not_intro c_5)], rfl, rfl⟩
