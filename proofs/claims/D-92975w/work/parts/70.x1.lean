-- Obj fields dict_keys(['cls', 'fun', 'sname', 'refs', 'extra', 'ups'])
/-! the component: its small static methods; Told: hours, far -/
set_option maxRecDepth 100000
set_option maxHeartbeats 4000000 in
theorem ax_isIn {l : Launch} {G : GW} {h : AH} {n : Nat} (v a b : Int32) : AM l G yX0_isIn cX0_isIn 3 (some .boolean) 0 0 0 [.int v, .int a, .int b] h n (Qi (b2i (inI v a b)) h n) := by
  refine AM.of (L := [some (.int v), some (.int a), some (.int b)]) (by decide) (Nat.le_of_ble_eq_true rfl) rfl ?_
  refine ew_iload_n (t := 1) dX0_isIn_0 rfl rfl rfl ?_
  refine ew_iload_n (t := 2) dX0_isIn_1 rfl rfl rfl ?_
  refine ew_icmp_lt (t := 14) (t2 := 5) dX0_isIn_2 rfl rfl (fun c_2 => ?_) (fun c_2 => ?_)
  · refine ew_ic0 (t := 15) dX0_isIn_14 rfl ?_
    exact ew_zret rfl (by decide) dX0_isIn_15 (Nat.le_refl _) (Nat.le_refl _) ⟨by simp [inI, b2i, c_2], rfl, rfl⟩
  · refine ew_iload_n (t := 6) dX0_isIn_5 rfl rfl rfl ?_
    refine ew_iload_n (t := 7) dX0_isIn_6 rfl rfl rfl ?_
    refine ew_icmp_gt (t := 14) (t2 := 10) dX0_isIn_7 rfl rfl (fun c_7 => ?_) (fun c_7 => ?_)
    · refine ew_ic0 (t := 15) dX0_isIn_14 rfl ?_
      exact ew_zret rfl (by decide) dX0_isIn_15 (Nat.le_refl _) (Nat.le_refl _) ⟨by simp [inI, b2i, c_2, c_7], rfl, rfl⟩
    · refine ew_ic1 (t := 11) dX0_isIn_10 rfl ?_
      refine ew_goto (t := 15) dX0_isIn_11 rfl ?_
      exact ew_zret rfl (by decide) dX0_isIn_15 (Nat.le_refl _) (Nat.le_refl _) ⟨by simp [inI, b2i, c_2, c_7], rfl, rfl⟩
set_option maxHeartbeats 4000000 in
theorem ax_isCell {l : Launch} {G : GW} {h : AH} {n : Nat} (c : Int32) : AM l G yX0_isCell cX0_isCell 1 (some .boolean) 1 0 0 [.int c] h n (Qi (b2i (inI c 0 99)) h n) := by
  refine AM.of (L := [some (.int c)]) (by decide) (Nat.le_of_ble_eq_true rfl) rfl ?_
  refine ew_iload_n (t := 1) dX0_isCell_0 rfl rfl rfl ?_
  refine ew_ic0 (t := 2) dX0_isCell_1 rfl ?_
  refine ew_bipush (t := 4) (v := 99) dX0_isCell_2 (by decide) rfl ?_
  refine ew_callS (t := 7) (As := [_, _, _]) (ax_isIn _ _ _) (lw_S q330 q331 q51 q332) naX0_isIn dX0_isCell_4 rfl (Nat.le_of_ble_eq_true rfl) (Nat.le_of_ble_eq_true rfl) (Nat.le_refl _) (Nat.le_refl _) (Nat.le_of_ble_eq_true rfl) rfl (qi ?_)
  exact ew_zret rfl (b2i_nar _) dX0_isCell_7 (Nat.le_refl _) (Nat.le_refl _) ⟨rfl, rfl, rfl⟩
set_option maxHeartbeats 4000000 in
theorem ax_isSheet {l : Launch} {G : GW} {h : AH} {n : Nat} (c : Int32) : AM l G yX0_isSheet cX0_isSheet 1 (some .boolean) 1 0 0 [.int c] h n (Qi (b2i (inI c 0 3)) h n) := by
  refine AM.of (L := [some (.int c)]) (by decide) (Nat.le_of_ble_eq_true rfl) rfl ?_
  refine ew_iload_n (t := 1) dX0_isSheet_0 rfl rfl rfl ?_
  refine ew_ic0 (t := 2) dX0_isSheet_1 rfl ?_
  refine ew_ic3 (t := 3) dX0_isSheet_2 rfl ?_
  refine ew_callS (t := 6) (As := [_, _, _]) (ax_isIn _ _ _) (lw_S q330 q331 q51 q332) naX0_isIn dX0_isSheet_3 rfl (Nat.le_of_ble_eq_true rfl) (Nat.le_of_ble_eq_true rfl) (Nat.le_refl _) (Nat.le_refl _) (Nat.le_of_ble_eq_true rfl) rfl (qi ?_)
  exact ew_zret rfl (b2i_nar _) dX0_isSheet_6 (Nat.le_refl _) (Nat.le_refl _) ⟨rfl, rfl, rfl⟩
set_option maxHeartbeats 4000000 in
theorem ax_isLane {l : Launch} {G : GW} {h : AH} {n : Nat} (c : Int32) : AM l G yX0_isLane cX0_isLane 1 (some .boolean) 1 0 0 [.int c] h n (Qi (b2i (inI c 0 2)) h n) := by
  refine AM.of (L := [some (.int c)]) (by decide) (Nat.le_of_ble_eq_true rfl) rfl ?_
  refine ew_iload_n (t := 1) dX0_isLane_0 rfl rfl rfl ?_
  refine ew_ic0 (t := 2) dX0_isLane_1 rfl ?_
  refine ew_ic2 (t := 3) dX0_isLane_2 rfl ?_
  refine ew_callS (t := 6) (As := [_, _, _]) (ax_isIn _ _ _) (lw_S q330 q331 q51 q332) naX0_isIn dX0_isLane_3 rfl (Nat.le_of_ble_eq_true rfl) (Nat.le_of_ble_eq_true rfl) (Nat.le_refl _) (Nat.le_refl _) (Nat.le_of_ble_eq_true rfl) rfl (qi ?_)
  exact ew_zret rfl (b2i_nar _) dX0_isLane_6 (Nat.le_refl _) (Nat.le_refl _) ⟨rfl, rfl, rfl⟩
def dgV (v : Int32) : Nat → Int32
  | 0 => v
  | k + 1 => dgV v k / 3
def dgX (v : Int32) (k : Nat) : Int32 := dgV v k - dgV v k / 3 * 3 - 1
theorem dgX_up : ∀ co, co < 8 → dgX 1440 co = rstep (nI co) := by decide +kernel
theorem dgX_as : ∀ co, co < 8 → dgX 160 co = cstep (nI co) := by decide +kernel
set_option maxHeartbeats 4000000 in
theorem lx_digit {l : Launch} {G : GW} {h : AH} {n : Nat} {v : Int32} {co : Nat} (hco : co < 8) : ∀ (f k : Nat), k + f = co → EW l G yX0_digit cX0_digit 4 (some .int) 0 0 0 (Qi (dgX v co) h n) 0 0 h n 4 [some (.int v), some (.int (nI co)), some (.int (dgV v k)), some (.int (nI k))] [] := by
  intro f
  induction f with
  | zero =>
    intro k  hk
    refine ew_iload_n (t := 5) dX0_digit_4 rfl rfl rfl ?_
    refine ew_iload_n (t := 6) dX0_digit_5 rfl rfl rfl ?_
    refine ew_icmp_ge (t := 19) (t2 := 9) dX0_digit_6 rfl rfl (fun c_6 => ?_) (fun c_6 => ?_)
    · refine ew_iload_n (t := 20) dX0_digit_19 rfl rfl rfl ?_
      refine ew_ic3 (t := 21) dX0_digit_20 rfl ?_
      refine ew_irem (t := 22) dX0_digit_21 (by decide) rfl ?_
      refine ew_ic1 (t := 23) dX0_digit_22 rfl ?_
      refine ew_isub (t := 24) dX0_digit_23 rfl ?_
      exact ew_iret rfl dX0_digit_24 (Nat.le_refl _) (Nat.le_refl _) ⟨by rw [show k = co by omega]; rfl, rfl, rfl⟩
    · exact absurd c_6 (by rw [show k = co by omega]; exact not_not_intro (Int32.le_refl _))
  | succ f ih =>
    intro k  hk
    refine ew_iload_n (t := 5) dX0_digit_4 rfl rfl rfl ?_
    refine ew_iload_n (t := 6) dX0_digit_5 rfl rfl rfl ?_
    refine ew_icmp_ge (t := 19) (t2 := 9) dX0_digit_6 rfl rfl (fun c_6 => ?_) (fun c_6 => ?_)
    · exact absurd c_6 (nI_ge (by omega) (by omega))
    · refine ew_iload_n (t := 10) dX0_digit_9 rfl rfl rfl ?_
      refine ew_ic3 (t := 11) dX0_digit_10 rfl ?_
      refine ew_idiv (t := 12) dX0_digit_11 (by decide) rfl ?_
      refine ew_istore_n (t := 13) (L' := [some (.int v), some (.int (nI co)), some (.int ((dgV v k) / 3)), some (.int (nI k))]) dX0_digit_12 rfl (Nat.le_of_ble_eq_true rfl) rfl rfl ?_
      refine ew_iinc (t := 16) (x := (nI k)) (v := ((nI k) + 1)) (L' := [some (.int v), some (.int (nI co)), some (.int ((dgV v k) / 3)), some (.int ((nI k) + 1))]) dX0_digit_13 rfl rfl (Nat.le_of_ble_eq_true rfl) rfl rfl ?_
      refine ew_goto (t := 4) dX0_digit_16 rfl ?_
      rw [nI_1]
      exact ih (k + 1) (by omega)
set_option maxHeartbeats 4000000 in
theorem ax_digit {l : Launch} {G : GW} {h : AH} {n : Nat} (v : Int32) {co : Nat} (hco : co < 8) : AM l G yX0_digit cX0_digit 4 (some .int) 0 0 0 [.int v, .int (nI co)] h n (Qi (dgX v co) h n) := by
  refine AM.of (L := [some (.int v), some (.int (nI co)), none, none]) (by decide) (Nat.le_of_ble_eq_true rfl) rfl ?_
  refine ew_iload_n (t := 1) dX0_digit_0 rfl rfl rfl ?_
  refine ew_istore_n (t := 2) (L' := [some (.int v), some (.int (nI co)), some (.int v), none]) dX0_digit_1 rfl (Nat.le_of_ble_eq_true rfl) rfl rfl ?_
  refine ew_ic0 (t := 3) dX0_digit_2 rfl ?_
  refine ew_istore_n (t := 4) (L' := [some (.int v), some (.int (nI co)), some (.int v), some (.int 0)]) dX0_digit_3 rfl (Nat.le_of_ble_eq_true rfl) rfl rfl ?_
  exact lx_digit hco co 0 (by omega)
set_option maxHeartbeats 4000000 in
theorem ax_beyond {l : Launch} {G : GW} {h : AH} {n : Nat} (a t : Int32) {co : Nat} (hco : co < 8) : AM l G yX0_beyond cX0_beyond 5 (some .int) 1 0 0 [.int a, .int (nI co), .int t] h n (Qi (goneF a (nI co) t) h n) := by
  refine AM.of (L := [some (.int a), some (.int (nI co)), some (.int t), none, none]) (by decide) (Nat.le_of_ble_eq_true rfl) rfl ?_
  refine ew_iload_n (t := 1) dX0_beyond_0 rfl rfl rfl ?_
  refine ew_bipush (t := 3) (v := 10) dX0_beyond_1 (by decide) rfl ?_
  refine ew_idiv (t := 4) dX0_beyond_3 (by decide) rfl ?_
  refine ew_iload_n (t := 5) dX0_beyond_4 rfl rfl rfl ?_
  refine ew_sipush (t := 8) (v := 1440) dX0_beyond_5 (by decide) rfl ?_
  refine ew_iload_n (t := 9) dX0_beyond_8 rfl rfl rfl ?_
  refine ew_callS (t := 12) (As := [_, _]) (ax_digit 1440 hco) (lw_S q432 q433 q51 q434) naX0_digit dX0_beyond_9 rfl (Nat.le_of_ble_eq_true rfl) (Nat.le_of_ble_eq_true rfl) (Nat.le_refl _) (Nat.le_refl _) (Nat.le_of_ble_eq_true rfl) rfl (qi ?_)
  rw [dgX_up co hco]
  refine ew_imul (t := 13) dX0_beyond_12 rfl ?_
  rw [Int32.mul_comm t (rstep (nI co))]
  refine ew_iadd (t := 14) dX0_beyond_13 rfl ?_
  refine ew_istore_n (t := 15) (L' := [some (.int a), some (.int (nI co)), some (.int t), some (.int ((a / 10) + (rstep (nI co) * t))), none]) dX0_beyond_14 rfl (Nat.le_of_ble_eq_true rfl) rfl rfl ?_
  refine ew_iload_n (t := 16) dX0_beyond_15 rfl rfl rfl ?_
  refine ew_bipush (t := 18) (v := 10) dX0_beyond_16 (by decide) rfl ?_
  refine ew_irem (t := 19) dX0_beyond_18 (by decide) rfl ?_
  refine ew_iload_n (t := 20) dX0_beyond_19 rfl rfl rfl ?_
  refine ew_sipush (t := 23) (v := 160) dX0_beyond_20 (by decide) rfl ?_
  refine ew_iload_n (t := 24) dX0_beyond_23 rfl rfl rfl ?_
  refine ew_callS (t := 27) (As := [_, _]) (ax_digit 160 hco) (lw_S q432 q433 q51 q434) naX0_digit dX0_beyond_24 rfl (Nat.le_of_ble_eq_true rfl) (Nat.le_of_ble_eq_true rfl) (Nat.le_refl _) (Nat.le_refl _) (Nat.le_of_ble_eq_true rfl) rfl (qi ?_)
  rw [dgX_as co hco]
  refine ew_imul (t := 28) dX0_beyond_27 rfl ?_
  rw [Int32.mul_comm t (cstep (nI co))]
  refine ew_iadd (t := 29) dX0_beyond_28 rfl ?_
  refine ew_istore (t := 31) (L' := [some (.int a), some (.int (nI co)), some (.int t), some (.int ((a / 10) + (rstep (nI co) * t))), some (.int ((a - a / 10 * 10) + (cstep (nI co) * t)))]) dX0_beyond_29 (Nat.le_of_ble_eq_true rfl) rfl rfl ?_
  refine ew_iload_n (t := 32) dX0_beyond_31 rfl rfl rfl ?_
  refine ew_ic0 (t := 33) dX0_beyond_32 rfl ?_
  refine ew_bipush (t := 35) (v := 9) dX0_beyond_33 (by decide) rfl ?_
  refine ew_callS (t := 38) (As := [_, _, _]) (ax_isIn _ _ _) (lw_S q330 q331 q51 q332) naX0_isIn dX0_beyond_35 rfl (Nat.le_of_ble_eq_true rfl) (Nat.le_of_ble_eq_true rfl) (Nat.le_refl _) (Nat.le_refl _) (Nat.le_of_ble_eq_true rfl) rfl (qi ?_)
  refine ew_if_eq (t := 62) (t2 := 41) dX0_beyond_38 rfl rfl (fun c_38 => ?_) (fun c_38 => ?_)
  · refine ew_bipush (t := 64) (v := (-4)) dX0_beyond_62 (by decide) rfl ?_
    exact ew_iret rfl dX0_beyond_64 (Nat.le_refl _) (Nat.le_refl _) ⟨by grind [goneF, b2i_0], rfl, rfl⟩
  · refine ew_iload (t := 43) dX0_beyond_41 rfl rfl ?_
    refine ew_ic0 (t := 44) dX0_beyond_43 rfl ?_
    refine ew_bipush (t := 46) (v := 9) dX0_beyond_44 (by decide) rfl ?_
    refine ew_callS (t := 49) (As := [_, _, _]) (ax_isIn _ _ _) (lw_S q330 q331 q51 q332) naX0_isIn dX0_beyond_46 rfl (Nat.le_of_ble_eq_true rfl) (Nat.le_of_ble_eq_true rfl) (Nat.le_refl _) (Nat.le_refl _) (Nat.le_of_ble_eq_true rfl) rfl (qi ?_)
    refine ew_if_eq (t := 62) (t2 := 52) dX0_beyond_49 rfl rfl (fun c_49 => ?_) (fun c_49 => ?_)
    · refine ew_bipush (t := 64) (v := (-4)) dX0_beyond_62 (by decide) rfl ?_
      exact ew_iret rfl dX0_beyond_64 (Nat.le_refl _) (Nat.le_refl _) ⟨by grind [goneF, b2i_0], rfl, rfl⟩
    · refine ew_bipush (t := 54) (v := 10) dX0_beyond_52 (by decide) rfl ?_
      refine ew_iload_n (t := 55) dX0_beyond_54 rfl rfl rfl ?_
      refine ew_imul (t := 56) dX0_beyond_55 rfl ?_
      refine ew_iload (t := 58) dX0_beyond_56 rfl rfl ?_
      refine ew_iadd (t := 59) dX0_beyond_58 rfl ?_
      refine ew_goto (t := 64) dX0_beyond_59 rfl ?_
      exact ew_iret rfl dX0_beyond_64 (Nat.le_refl _) (Nat.le_refl _) ⟨by grind [goneF, b2i_0], rfl, rfl⟩
def besI (a b : Int32) : Int32 := if a = b then 0 else if 1 < (if 0 ≤ a / 10 - b / 10 then a / 10 - b / 10 else 0 - (a / 10 - b / 10)) then 0 else if 1 < (if 0 ≤ (a - a / 10 * 10) - (b - b / 10 * 10) then (a - a / 10 * 10) - (b - b / 10 * 10) else 0 - ((a - a / 10 * 10) - (b - b / 10 * 10))) then 0 else 1
set_option maxHeartbeats 4000000 in
theorem ax_areBeside {l : Launch} {G : GW} {h : AH} {n : Nat} (a b : Int32) : AM l G yX0_areBeside cX0_areBeside 2 (some .boolean) 1 0 0 [.int a, .int b] h n (Qi (besI a b) h n) := by
  refine AM.of (L := [some (.int a), some (.int b)]) (by decide) (Nat.le_of_ble_eq_true rfl) rfl ?_
  refine ew_iload_n (t := 1) dX0_areBeside_0 rfl rfl rfl ?_
  refine ew_iload_n (t := 2) dX0_areBeside_1 rfl rfl rfl ?_
  refine ew_icmp_eq (t := 41) (t2 := 5) dX0_areBeside_2 rfl rfl (fun c_2 => ?_) (fun c_2 => ?_)
  · refine ew_ic0 (t := 42) dX0_areBeside_41 rfl ?_
    exact ew_zret rfl (by decide) dX0_areBeside_42 (Nat.le_refl _) (Nat.le_refl _) ⟨by unfold besI; rw [if_pos c_2], rfl, rfl⟩
  · refine ew_iload_n (t := 6) dX0_areBeside_5 rfl rfl rfl ?_
    refine ew_bipush (t := 8) (v := 10) dX0_areBeside_6 (by decide) rfl ?_
    refine ew_idiv (t := 9) dX0_areBeside_8 (by decide) rfl ?_
    refine ew_iload_n (t := 10) dX0_areBeside_9 rfl rfl rfl ?_
    refine ew_bipush (t := 12) (v := 10) dX0_areBeside_10 (by decide) rfl ?_
    refine ew_idiv (t := 13) dX0_areBeside_12 (by decide) rfl ?_
    refine ew_isub (t := 14) dX0_areBeside_13 rfl ?_
    refine ew_mabs (t := 17) q443 q444 q62 q445 dX0_areBeside_14 (Nat.le_of_ble_eq_true rfl) (Nat.le_refl _) (Nat.le_refl _) (Nat.le_of_ble_eq_true rfl) rfl ?_
    refine ew_ic1 (t := 18) dX0_areBeside_17 rfl ?_
    refine ew_icmp_gt (t := 41) (t2 := 21) dX0_areBeside_18 rfl rfl (fun c_18 => ?_) (fun c_18 => ?_)
    · refine ew_ic0 (t := 42) dX0_areBeside_41 rfl ?_
      exact ew_zret rfl (by decide) dX0_areBeside_42 (Nat.le_refl _) (Nat.le_refl _) ⟨by unfold besI; rw [if_neg c_2, if_pos c_18], rfl, rfl⟩
    · refine ew_iload_n (t := 22) dX0_areBeside_21 rfl rfl rfl ?_
      refine ew_bipush (t := 24) (v := 10) dX0_areBeside_22 (by decide) rfl ?_
      refine ew_irem (t := 25) dX0_areBeside_24 (by decide) rfl ?_
      refine ew_iload_n (t := 26) dX0_areBeside_25 rfl rfl rfl ?_
      refine ew_bipush (t := 28) (v := 10) dX0_areBeside_26 (by decide) rfl ?_
      refine ew_irem (t := 29) dX0_areBeside_28 (by decide) rfl ?_
      refine ew_isub (t := 30) dX0_areBeside_29 rfl ?_
      refine ew_mabs (t := 33) q443 q444 q62 q445 dX0_areBeside_30 (Nat.le_of_ble_eq_true rfl) (Nat.le_refl _) (Nat.le_refl _) (Nat.le_of_ble_eq_true rfl) rfl ?_
      refine ew_ic1 (t := 34) dX0_areBeside_33 rfl ?_
      refine ew_icmp_gt (t := 41) (t2 := 37) dX0_areBeside_34 rfl rfl (fun c_34 => ?_) (fun c_34 => ?_)
      · refine ew_ic0 (t := 42) dX0_areBeside_41 rfl ?_
        exact ew_zret rfl (by decide) dX0_areBeside_42 (Nat.le_refl _) (Nat.le_refl _) ⟨by unfold besI; rw [if_neg c_2, if_neg c_18, if_pos c_34], rfl, rfl⟩
      · refine ew_ic1 (t := 38) dX0_areBeside_37 rfl ?_
        refine ew_goto (t := 42) dX0_areBeside_38 rfl ?_
        exact ew_zret rfl (by decide) dX0_areBeside_42 (Nat.le_refl _) (Nat.le_refl _) ⟨by unfold besI; rw [if_neg c_2, if_neg c_18, if_neg c_34], rfl, rfl⟩
set_option maxHeartbeats 4000000 in
theorem ax_hours {l : Launch} {G : GW} {h : AH} {n : Nat} {FS : Nat → Int32} (x2 : h 2 = some TO0) (x3 : h 3 = some (IA 8 FS)) : AM l G yX1_hours cX1_hours 1 (some .int) 0 0 0 [.ref 2] h n (Qi (FS 2) h n) := by
  refine AM.of (L := [some (.ref 2)]) (by decide) (Nat.le_of_ble_eq_true rfl) rfl ?_
  refine ew_aload_n (t := 1) dX1_hours_0 rfl rfl rfl ?_
  refine ew_get (t := 4) (j := 0) (v := .ref 3) fcX1 x2 (Nat.le_of_ble_eq_true rfl) q125 rfl dX1_hours_1 rfl ?_
  refine ew_ic2 (t := 5) dX1_hours_4 rfl ?_
  refine ew_iald (t := 6) (j := 2) (N := 8) x3 (vpI (by decide)) (by decide) dX1_hours_5 rfl ?_
  exact ew_iret rfl dX1_hours_6 (Nat.le_refl _) (Nat.le_refl _) ⟨rfl, rfl, rfl⟩
set_option maxHeartbeats 4000000 in
theorem lx_far {l : Launch} {G : GW} {h : AH} {n : Nat} {o0 o1 o2 o3 : Option Value} {R : Int32} {q : Nat} (hq : q ≤ 648) : ∀ (f r : Nat), r + f = 30 → R = nI (rtL q r f) → EW l G yX1_far cX1_far 6 (some .int) 0 0 0 (Qi R h n) 0 0 h n 44 [o0, o1, o2, o3, some (.int (nI q)), some (.int (nI r))] [] := by
  intro f
  induction f with
  | zero =>
    intro r hr hR
    have hr2 : (r + 1) * (r + 1) ≤ 961 := Nat.mul_le_mul (by omega : r + 1 ≤ 31) (by omega : r + 1 ≤ 31)
    have e1 : (nI r + 1) * (nI r + 1) = nI ((r + 1) * (r + 1)) := by rw [nI_1, pk_mul]
    refine ew_iload (t := 46) dX1_far_44 rfl rfl ?_
    refine ew_ic1 (t := 47) dX1_far_46 rfl ?_
    refine ew_iadd (t := 48) dX1_far_47 rfl ?_
    refine ew_iload (t := 50) dX1_far_48 rfl rfl ?_
    refine ew_ic1 (t := 51) dX1_far_50 rfl ?_
    refine ew_iadd (t := 52) dX1_far_51 rfl ?_
    refine ew_imul (t := 53) dX1_far_52 rfl ?_
    refine ew_iload (t := 55) dX1_far_53 rfl rfl ?_
    refine ew_icmp_gt (t := 64) (t2 := 58) dX1_far_55 rfl rfl (fun c_55 => ?_) (fun c_55 => ?_)
    · refine ew_iload (t := 66) dX1_far_64 rfl rfl ?_
      exact ew_iret rfl dX1_far_66 (Nat.le_refl _) (Nat.le_refl _) ⟨congrArg (fun z => some (Value.int z)) (by rw [hR, rt_stop (fun z => by rw [e1] at c_55; exact absurd (nI_le z (by omega)) (by simpa [Int32.not_le] using c_55))]), rfl, rfl⟩
    · refine ew_iinc (t := 61) (x := (nI r)) (v := ((nI r) + 1)) (L' := [o0, o1, o2, o3, some (.int (nI q)), some (.int ((nI r) + 1))]) dX1_far_58 rfl rfl (Nat.le_of_ble_eq_true rfl) rfl rfl ?_
      refine ew_goto (t := 44) dX1_far_61 rfl ?_
      rw [e1] at c_55
      have hle : (r + 1) * (r + 1) ≤ q := by
        rcases Nat.lt_or_ge q ((r + 1) * (r + 1)) with z | z
        · exact absurd (nI_lt z (by omega)) c_55
        · exact z
      have h30 : r = 30 := by omega
      subst h30
      exact absurd hle (by omega)
  | succ f ih =>
    intro r hr hR
    have hr2 : (r + 1) * (r + 1) ≤ 961 := Nat.mul_le_mul (by omega : r + 1 ≤ 31) (by omega : r + 1 ≤ 31)
    have e1 : (nI r + 1) * (nI r + 1) = nI ((r + 1) * (r + 1)) := by rw [nI_1, pk_mul]
    refine ew_iload (t := 46) dX1_far_44 rfl rfl ?_
    refine ew_ic1 (t := 47) dX1_far_46 rfl ?_
    refine ew_iadd (t := 48) dX1_far_47 rfl ?_
    refine ew_iload (t := 50) dX1_far_48 rfl rfl ?_
    refine ew_ic1 (t := 51) dX1_far_50 rfl ?_
    refine ew_iadd (t := 52) dX1_far_51 rfl ?_
    refine ew_imul (t := 53) dX1_far_52 rfl ?_
    refine ew_iload (t := 55) dX1_far_53 rfl rfl ?_
    refine ew_icmp_gt (t := 64) (t2 := 58) dX1_far_55 rfl rfl (fun c_55 => ?_) (fun c_55 => ?_)
    · refine ew_iload (t := 66) dX1_far_64 rfl rfl ?_
      exact ew_iret rfl dX1_far_66 (Nat.le_refl _) (Nat.le_refl _) ⟨congrArg (fun z => some (Value.int z)) (by rw [hR, rt_stop (fun z => by rw [e1] at c_55; exact absurd (nI_le z (by omega)) (by simpa [Int32.not_le] using c_55))]), rfl, rfl⟩
    · refine ew_iinc (t := 61) (x := (nI r)) (v := ((nI r) + 1)) (L' := [o0, o1, o2, o3, some (.int (nI q)), some (.int ((nI r) + 1))]) dX1_far_58 rfl rfl (Nat.le_of_ble_eq_true rfl) rfl rfl ?_
      refine ew_goto (t := 44) dX1_far_61 rfl ?_
      rw [e1] at c_55
      have hle : (r + 1) * (r + 1) ≤ q := by
        rcases Nat.lt_or_ge q ((r + 1) * (r + 1)) with z | z
        · exact absurd (nI_lt z (by omega)) c_55
        · exact z
      rw [nI_1]
      exact ih (r + 1) (by omega) (by rw [hR, rt_step hle])
set_option maxHeartbeats 4000000 in
theorem ax_tfar {l : Launch} {G : GW} {h : AH} {n : Nat} {FS : Nat → Int32} (x2 : h 2 = some TO0) (x3 : h 3 = some (IA 8 FS)) {a b : Nat} (hF : FS 0 = nI a) (ha : a < 100) (hb : b < 100) : AM l G yX1_far cX1_far 6 (some .int) 0 0 0 [.ref 2, .int (nI b)] h n (Qi (nI (awayF a b)) h n) := by
  refine AM.of (L := [some (.ref 2), some (.int (nI b)), none, none, none, none]) (by decide) (Nat.le_of_ble_eq_true rfl) rfl ?_
  refine ew_iload_n (t := 1) dX1_far_0 rfl rfl rfl ?_
  refine ew_bipush (t := 3) (v := 10) dX1_far_1 (by decide) rfl ?_
  refine ew_idiv (t := 4) dX1_far_3 (by decide) rfl ?_
  refine ew_aload_n (t := 5) dX1_far_4 rfl rfl rfl ?_
  refine ew_get (t := 8) (j := 0) (v := .ref 3) fcX1 x2 (Nat.le_of_ble_eq_true rfl) q125 rfl dX1_far_5 rfl ?_
  refine ew_ic0 (t := 9) dX1_far_8 rfl ?_
  refine ew_iald (t := 10) (j := 0) (N := 8) x3 (vpI (by decide)) (by decide) dX1_far_9 rfl ?_
  refine ew_bipush (t := 12) (v := 10) dX1_far_10 (by decide) rfl ?_
  refine ew_idiv (t := 13) dX1_far_12 (by decide) rfl ?_
  refine ew_isub (t := 14) dX1_far_13 rfl ?_
  refine ew_istore_n (t := 15) (L' := [some (.ref 2), some (.int (nI b)), some (.int (((nI b) / 10) - ((FS 0) / 10))), none, none, none]) dX1_far_14 rfl (Nat.le_of_ble_eq_true rfl) rfl rfl ?_
  refine ew_iload_n (t := 16) dX1_far_15 rfl rfl rfl ?_
  refine ew_bipush (t := 18) (v := 10) dX1_far_16 (by decide) rfl ?_
  refine ew_irem (t := 19) dX1_far_18 (by decide) rfl ?_
  refine ew_aload_n (t := 20) dX1_far_19 rfl rfl rfl ?_
  refine ew_get (t := 23) (j := 0) (v := .ref 3) fcX1 x2 (Nat.le_of_ble_eq_true rfl) q125 rfl dX1_far_20 rfl ?_
  refine ew_ic0 (t := 24) dX1_far_23 rfl ?_
  refine ew_iald (t := 25) (j := 0) (N := 8) x3 (vpI (by decide)) (by decide) dX1_far_24 rfl ?_
  refine ew_bipush (t := 27) (v := 10) dX1_far_25 (by decide) rfl ?_
  refine ew_irem (t := 28) dX1_far_27 (by decide) rfl ?_
  refine ew_isub (t := 29) dX1_far_28 rfl ?_
  refine ew_istore_n (t := 30) (L' := [some (.ref 2), some (.int (nI b)), some (.int (((nI b) / 10) - ((FS 0) / 10))), some (.int (((nI b) - (nI b) / 10 * 10) - ((FS 0) - (FS 0) / 10 * 10))), none, none]) dX1_far_29 rfl (Nat.le_of_ble_eq_true rfl) rfl rfl ?_
  refine ew_ic4 (t := 31) dX1_far_30 rfl ?_
  refine ew_iload_n (t := 32) dX1_far_31 rfl rfl rfl ?_
  refine ew_iload_n (t := 33) dX1_far_32 rfl rfl rfl ?_
  refine ew_imul (t := 34) dX1_far_33 rfl ?_
  refine ew_iload_n (t := 35) dX1_far_34 rfl rfl rfl ?_
  refine ew_iload_n (t := 36) dX1_far_35 rfl rfl rfl ?_
  refine ew_imul (t := 37) dX1_far_36 rfl ?_
  refine ew_iadd (t := 38) dX1_far_37 rfl ?_
  refine ew_imul (t := 39) dX1_far_38 rfl ?_
  refine ew_istore (t := 41) (L' := [some (.ref 2), some (.int (nI b)), some (.int (((nI b) / 10) - ((FS 0) / 10))), some (.int (((nI b) - (nI b) / 10 * 10) - ((FS 0) - (FS 0) / 10 * 10))), some (.int (4 * (((((nI b) / 10) - ((FS 0) / 10)) * (((nI b) / 10) - ((FS 0) / 10))) + ((((nI b) - (nI b) / 10 * 10) - ((FS 0) - (FS 0) / 10 * 10)) * (((nI b) - (nI b) / 10 * 10) - ((FS 0) - (FS 0) / 10 * 10)))))), none]) dX1_far_39 (Nat.le_of_ble_eq_true rfl) rfl rfl ?_
  refine ew_ic0 (t := 42) dX1_far_41 rfl ?_
  refine ew_istore (t := 44) (L' := [some (.ref 2), some (.int (nI b)), some (.int (((nI b) / 10) - ((FS 0) / 10))), some (.int (((nI b) - (nI b) / 10 * 10) - ((FS 0) - (FS 0) / 10 * 10))), some (.int (4 * (((((nI b) / 10) - ((FS 0) / 10)) * (((nI b) / 10) - ((FS 0) / 10))) + ((((nI b) - (nI b) / 10 * 10) - ((FS 0) - (FS 0) / 10 * 10)) * (((nI b) - (nI b) / 10 * 10) - ((FS 0) - (FS 0) / 10 * 10)))))), some (.int 0)]) dX1_far_42 (Nat.le_of_ble_eq_true rfl) rfl rfl ?_
  rw [hF, sqN_i ha hb]
  exact lx_far (sqN_le ha hb) 30 0 rfl rfl
