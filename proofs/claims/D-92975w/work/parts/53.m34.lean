-- Obj fields dict_keys(['cls', 'fun', 'sname', 'refs', 'extra', 'ups'])
/-! the reference: digit -/
set_option maxRecDepth 100000
/-- behind a reading: place a, wrong w -/
def TxQ (s : Nat → Int32) (al : Int64) (h : AH) (n : Nat) (p : Int32 × Nat × Int32) : Option Value → AH → Nat → Prop := fun r h' n' => r = some (.int p.1) ∧ n' = n ∧ ∃ s', h' = hov h [(33, MO s' al)] ∧ s' 8 = nI p.2.1 ∧ s' 9 = p.2.2 ∧ ∀ j, j ≠ 8 → j ≠ 9 → s' j = s j
def dgR (T : Nat → Int32) (tp a : Nat) (wr lo hi : Int32) : Int32 × Nat × Int32 := if ¬ wr = 0 then (0, a, 1) else if ¬ b2i (inL (hrC T tp (hrN T tp a)).toInt64 ((48 : Int32) + lo).toInt64 ((48 : Int32) + hi).toInt64) = 0 then (hrC T tp (hrN T tp a) - 48, hrN T tp a + 1, 0) else (0, hrN T tp a, 1)

set_option maxHeartbeats 4000000 in
theorem am_digit {l : Launch} {G : GW} {h : AH} {n : Nat} {s : Nat → Int32} {al : Int64} {T : Nat → Int32} {tp a : Nat} (m33 : h 33 = some (MO s al)) (m40 : h 40 = some (IA 60 T)) (h7 : s 7 = nI tp) (h8 : s 8 = nI a) (ha : a ≤ tp) (htp : tp ≤ 60) (lo hi : Int32) : AM l G yX4_digit cX4_digit 4 (some .int) 1 0 0 [.ref 33, .int lo, .int hi] h n (TxQ s al h n (dgR T tp a (s 9) lo hi)) := by
  refine AM.of (L := [some (.ref 33), some (.int lo), some (.int hi), none]) (by decide) (Nat.le_of_ble_eq_true rfl) rfl ?_
  refine EW.heap (h' := hov h [(33, MO s al)]) (hov_same (h := h) m33).symm ?_
  refine ew_aload_n (t := 1) dX4_digit_0 rfl rfl rfl ?_
  refine ew_aload_n (t := 2) dX4_digit_1 rfl rfl rfl ?_
  refine ew_get (t := 5) (j := 9) (v := .int (s 9)) fcX4 rfl (Nat.le_of_ble_eq_true rfl) q1030 rfl dX4_digit_2 rfl ?_
  refine ew_if_ne (t := 29) (t2 := 8) dX4_digit_5 rfl rfl (fun c_5 => ?_) (fun c_5 => ?_)
  · refine ew_ic1 (t := 30) dX4_digit_29 rfl ?_
    refine ew_goto (t := 34) dX4_digit_30 rfl ?_
    refine ew_put (t := 37) (j := 9) (fs' := MOf (upd s 9 1) al) (h' := (hov h [(33, OB 4 (MOf (upd s 9 1) al))])) fcX4 rfl (Nat.le_of_ble_eq_true rfl) rfl q1030 (by decide) (by decide) (Nat.le_of_ble_eq_true rfl) rfl dX4_digit_34 (hov_up rfl) rfl ?_
    refine ew_aload_n (t := 38) dX4_digit_37 rfl rfl rfl ?_
    refine ew_get (t := 41) (j := 9) (v := .int 1) fcX4 rfl (Nat.le_of_ble_eq_true rfl) q1030 rfl dX4_digit_38 rfl ?_
    refine ew_if_eq (t := 48) (t2 := 44) dX4_digit_41 rfl rfl (fun c_41 => ?_) (fun c_41 => ?_)
    · exact absurd c_41 (by decide)
    · refine ew_ic0 (t := 45) dX4_digit_44 rfl ?_
      refine ew_goto (t := 55) dX4_digit_45 rfl ?_
      refine ew_istore_n (t := 56) (L' := [some (.ref 33), some (.int lo), some (.int hi), some (.int 0)]) dX4_digit_55 rfl (Nat.le_of_ble_eq_true rfl) rfl rfl ?_
      refine ew_aload_n (t := 57) dX4_digit_56 rfl rfl rfl ?_
      refine ew_dup (t := 58) dX4_digit_57 rfl rfl ?_
      refine ew_get (t := 61) (j := 8) (v := .int (s 8)) fcX4 rfl (Nat.le_of_ble_eq_true rfl) q1029 rfl dX4_digit_58 rfl ?_
      refine ew_aload_n (t := 62) dX4_digit_61 rfl rfl rfl ?_
      refine ew_get (t := 65) (j := 9) (v := .int 1) fcX4 rfl (Nat.le_of_ble_eq_true rfl) q1030 rfl dX4_digit_62 rfl ?_
      refine ew_if_eq (t := 72) (t2 := 68) dX4_digit_65 rfl rfl (fun c_65 => ?_) (fun c_65 => ?_)
      · exact absurd c_65 (by decide)
      · refine ew_ic0 (t := 69) dX4_digit_68 rfl ?_
        refine ew_goto (t := 73) dX4_digit_69 rfl ?_
        refine ew_iadd (t := 74) dX4_digit_73 rfl ?_
        refine ew_put (t := 77) (j := 8) (fs' := MOf (upd (upd s 8 ((s 8) + 0)) 9 1) al) (h' := (hov h [(33, OB 4 (MOf (upd (upd s 8 ((s 8) + 0)) 9 1) al))])) fcX4 rfl (Nat.le_of_ble_eq_true rfl) rfl q1029 rfl rfl (Nat.le_of_ble_eq_true rfl) rfl dX4_digit_74 (hov_up rfl) rfl ?_
        refine ew_iload_n (t := 78) dX4_digit_77 rfl rfl rfl ?_
        exact ew_iret rfl dX4_digit_78 (Nat.le_refl _) (Nat.le_refl _) (by rw [show dgR T tp a (s 9) lo hi = (0, a, 1) from if_pos c_5]; exact ⟨rfl, rfl, _, rfl, by show s 8 + 0 = nI a; rw [h8]; exact Int32.add_zero _, rfl, fun j h1 h2 => by rw [pk_un h2, pk_un h1]⟩)
  · refine ew_aload_n (t := 9) dX4_digit_8 rfl rfl rfl ?_
    refine ew_callV (t := 12) (As := []) (am_here (h := h) (s := s) m40 h7 h8 ha htp) (fcX4).1 rfl (lw_V q1192 q1194 qs31 q60 q1195) rfl naX4_here dX4_digit_9 rfl (Nat.le_of_ble_eq_true rfl) (Nat.le_of_ble_eq_true rfl) (Nat.le_refl _) (Nat.le_refl _) (Nat.le_of_ble_eq_true rfl) rfl (qi ?_)
    refine ew_i2l (t := 13) dX4_digit_12 rfl ?_
    refine ew_bipush (t := 15) (v := 48) dX4_digit_13 (by decide) rfl ?_
    refine ew_iload_n (t := 16) dX4_digit_15 rfl rfl rfl ?_
    refine ew_iadd (t := 17) dX4_digit_16 rfl ?_
    refine ew_i2l (t := 18) dX4_digit_17 rfl ?_
    refine ew_bipush (t := 20) (v := 48) dX4_digit_18 (by decide) rfl ?_
    refine ew_iload_n (t := 21) dX4_digit_20 rfl rfl rfl ?_
    refine ew_iadd (t := 22) dX4_digit_21 rfl ?_
    refine ew_i2l (t := 23) dX4_digit_22 rfl ?_
    refine ew_callS (t := 26) (As := [_, _, _]) (am_in _ _ _) (lw_S q1153 q1154 q60 q1155) naX4_in dX4_digit_23 rfl (Nat.le_of_ble_eq_true rfl) (Nat.le_of_ble_eq_true rfl) (Nat.le_refl _) (Nat.le_refl _) (Nat.le_of_ble_eq_true rfl) rfl (qi ?_)
    refine ew_if_ne (t := 33) (t2 := 29) dX4_digit_26 rfl rfl (fun c_26 => ?_) (fun c_26 => ?_)
    · refine ew_ic0 (t := 34) dX4_digit_33 rfl ?_
      refine ew_put (t := 37) (j := 9) (fs' := MOf (upd (upd s 8 (nI (hrN T tp a))) 9 0) al) (h' := (hov h [(33, OB 4 (MOf (upd (upd s 8 (nI (hrN T tp a))) 9 0) al))])) fcX4 rfl (Nat.le_of_ble_eq_true rfl) rfl q1030 (by decide) (by decide) (Nat.le_of_ble_eq_true rfl) rfl dX4_digit_34 (hov_up rfl) rfl ?_
      refine ew_aload_n (t := 38) dX4_digit_37 rfl rfl rfl ?_
      refine ew_get (t := 41) (j := 9) (v := .int 0) fcX4 rfl (Nat.le_of_ble_eq_true rfl) q1030 rfl dX4_digit_38 rfl ?_
      refine ew_if_eq (t := 48) (t2 := 44) dX4_digit_41 rfl rfl (fun c_41 => ?_) (fun c_41 => ?_)
      · refine ew_aload_n (t := 49) dX4_digit_48 rfl rfl rfl ?_
        refine ew_callV (t := 52) (As := []) (am_here (h := h) (s := (upd (upd s 8 (nI (hrN T tp a))) 9 0)) m40 h7 rfl (hrN_le ha).2 htp) (fcX4).1 rfl (lw_V q1192 q1194 qs31 q60 q1195) rfl naX4_here dX4_digit_49 rfl (Nat.le_of_ble_eq_true rfl) (Nat.le_of_ble_eq_true rfl) (Nat.le_refl _) (Nat.le_refl _) (Nat.le_of_ble_eq_true rfl) rfl (qi ?_)
        rw [hrN_idem ha, upd_same (s := (upd (upd s 8 (nI (hrN T tp a))) 9 0)) (k := 8) (x := (nI (hrN T tp a))) rfl]
        refine ew_bipush (t := 54) (v := 48) dX4_digit_52 (by decide) rfl ?_
        refine ew_isub (t := 55) dX4_digit_54 rfl ?_
        refine ew_istore_n (t := 56) (L' := [some (.ref 33), some (.int lo), some (.int hi), some (.int ((hrC T tp (hrN T tp a)) - 48))]) dX4_digit_55 rfl (Nat.le_of_ble_eq_true rfl) rfl rfl ?_
        refine ew_aload_n (t := 57) dX4_digit_56 rfl rfl rfl ?_
        refine ew_dup (t := 58) dX4_digit_57 rfl rfl ?_
        refine ew_get (t := 61) (j := 8) (v := .int (nI (hrN T tp a))) fcX4 rfl (Nat.le_of_ble_eq_true rfl) q1029 rfl dX4_digit_58 rfl ?_
        refine ew_aload_n (t := 62) dX4_digit_61 rfl rfl rfl ?_
        refine ew_get (t := 65) (j := 9) (v := .int 0) fcX4 rfl (Nat.le_of_ble_eq_true rfl) q1030 rfl dX4_digit_62 rfl ?_
        refine ew_if_eq (t := 72) (t2 := 68) dX4_digit_65 rfl rfl (fun c_65 => ?_) (fun c_65 => ?_)
        · refine ew_ic1 (t := 73) dX4_digit_72 rfl ?_
          refine ew_iadd (t := 74) dX4_digit_73 rfl ?_
          refine ew_put (t := 77) (j := 8) (fs' := MOf (upd (upd s 8 ((nI (hrN T tp a)) + 1)) 9 0) al) (h' := (hov h [(33, OB 4 (MOf (upd (upd s 8 ((nI (hrN T tp a)) + 1)) 9 0) al))])) fcX4 rfl (Nat.le_of_ble_eq_true rfl) rfl q1029 rfl rfl (Nat.le_of_ble_eq_true rfl) rfl dX4_digit_74 (hov_up rfl) rfl ?_
          refine ew_iload_n (t := 78) dX4_digit_77 rfl rfl rfl ?_
          exact ew_iret rfl dX4_digit_78 (Nat.le_refl _) (Nat.le_refl _) (by rw [show dgR T tp a (s 9) lo hi = (hrC T tp (hrN T tp a) - 48, hrN T tp a + 1, 0) from by unfold dgR; rw [if_neg (not_not_intro c_5), if_pos c_26]]; exact ⟨rfl, rfl, _, rfl, nI_1 _, rfl, fun j h1 h2 => by rw [pk_un h2, pk_un h1]⟩)
        · exact absurd c_65 (by decide)
      · exact absurd c_41 (by decide)
    · refine ew_ic1 (t := 30) dX4_digit_29 rfl ?_
      refine ew_goto (t := 34) dX4_digit_30 rfl ?_
      refine ew_put (t := 37) (j := 9) (fs' := MOf (upd (upd s 8 (nI (hrN T tp a))) 9 1) al) (h' := (hov h [(33, OB 4 (MOf (upd (upd s 8 (nI (hrN T tp a))) 9 1) al))])) fcX4 rfl (Nat.le_of_ble_eq_true rfl) rfl q1030 (by decide) (by decide) (Nat.le_of_ble_eq_true rfl) rfl dX4_digit_34 (hov_up rfl) rfl ?_
      refine ew_aload_n (t := 38) dX4_digit_37 rfl rfl rfl ?_
      refine ew_get (t := 41) (j := 9) (v := .int 1) fcX4 rfl (Nat.le_of_ble_eq_true rfl) q1030 rfl dX4_digit_38 rfl ?_
      refine ew_if_eq (t := 48) (t2 := 44) dX4_digit_41 rfl rfl (fun c_41 => ?_) (fun c_41 => ?_)
      · exact absurd c_41 (by decide)
      · refine ew_ic0 (t := 45) dX4_digit_44 rfl ?_
        refine ew_goto (t := 55) dX4_digit_45 rfl ?_
        refine ew_istore_n (t := 56) (L' := [some (.ref 33), some (.int lo), some (.int hi), some (.int 0)]) dX4_digit_55 rfl (Nat.le_of_ble_eq_true rfl) rfl rfl ?_
        refine ew_aload_n (t := 57) dX4_digit_56 rfl rfl rfl ?_
        refine ew_dup (t := 58) dX4_digit_57 rfl rfl ?_
        refine ew_get (t := 61) (j := 8) (v := .int (nI (hrN T tp a))) fcX4 rfl (Nat.le_of_ble_eq_true rfl) q1029 rfl dX4_digit_58 rfl ?_
        refine ew_aload_n (t := 62) dX4_digit_61 rfl rfl rfl ?_
        refine ew_get (t := 65) (j := 9) (v := .int 1) fcX4 rfl (Nat.le_of_ble_eq_true rfl) q1030 rfl dX4_digit_62 rfl ?_
        refine ew_if_eq (t := 72) (t2 := 68) dX4_digit_65 rfl rfl (fun c_65 => ?_) (fun c_65 => ?_)
        · exact absurd c_65 (by decide)
        · refine ew_ic0 (t := 69) dX4_digit_68 rfl ?_
          refine ew_goto (t := 73) dX4_digit_69 rfl ?_
          refine ew_iadd (t := 74) dX4_digit_73 rfl ?_
          refine ew_put (t := 77) (j := 8) (fs' := MOf (upd (upd s 8 ((nI (hrN T tp a)) + 0)) 9 1) al) (h' := (hov h [(33, OB 4 (MOf (upd (upd s 8 ((nI (hrN T tp a)) + 0)) 9 1) al))])) fcX4 rfl (Nat.le_of_ble_eq_true rfl) rfl q1029 rfl rfl (Nat.le_of_ble_eq_true rfl) rfl dX4_digit_74 (hov_up rfl) rfl ?_
          refine ew_iload_n (t := 78) dX4_digit_77 rfl rfl rfl ?_
          exact ew_iret rfl dX4_digit_78 (Nat.le_refl _) (Nat.le_refl _) (by rw [show dgR T tp a (s 9) lo hi = (0, hrN T tp a, 1) from by unfold dgR; rw [if_neg (not_not_intro c_5), if_neg (not_not_intro c_26)]]; exact ⟨rfl, rfl, _, rfl, Int32.add_zero _, rfl, fun j h1 h2 => by rw [pk_un h2, pk_un h1]⟩)
