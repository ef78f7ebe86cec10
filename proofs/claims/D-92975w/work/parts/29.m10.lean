/-! the reference: drifted, driftTo, drift -/
set_option maxRecDepth 100000
def dr1 (cu c : Int32) : Int32 := if ¬ cu = 8 then goneF c cu 1 else c
def dr2 (cu c : Int32) : Int32 := if 0 ≤ dr1 cu c then dr1 cu c else c
def dr3 (cu wd hi c : Int32) : Int32 := if hi = 0 then dr2 cu c else if ¬ wd = 8 then goneF (dr2 cu c) wd 1 else dr2 cu c
/-- where something is a month on: its current, the wind, whether it is high -/
def driftI (cu wd hi c : Int32) : Int32 := if 0 ≤ dr3 cu wd hi c then dr3 cu wd hi c else dr2 cu c
theorem goneF_cell {a c t : Int32} (h : 0 ≤ goneF a c t) : ∃ b : Nat, b < 100 ∧ goneF a c t = nI b := goneF_nn (Int32.not_lt.mpr h)
theorem dr2_cell {cu : Int32} {b : Nat} (hb : b < 100) : ∃ b' : Nat, b' < 100 ∧ dr2 cu (nI b) = nI b' := by
  unfold dr2
  split
  · rename_i h
    unfold dr1 at h ⊢
    split
    · rename_i h2
      rw [if_pos h2] at h
      exact goneF_cell h
    · exact ⟨b, hb, rfl⟩
  · exact ⟨b, hb, rfl⟩
theorem driftI_cell (cu wd hi : Int32) {b : Nat} (hb : b < 100) : ∃ b' : Nat, b' < 100 ∧ driftI cu wd hi (nI b) = nI b' := by
  obtain ⟨b2, hb2, e2⟩ := dr2_cell (cu := cu) hb
  unfold driftI
  split
  · rename_i h
    unfold dr3 at h ⊢
    split
    · exact ⟨b2, hb2, e2⟩
    · rename_i h1
      rw [if_neg h1] at h
      split
      · rename_i h2
        rw [if_pos h2] at h
        exact goneF_cell h
      · exact ⟨b2, hb2, e2⟩
  · exact ⟨b2, hb2, e2⟩
/-- the cell a month on, by the currents CU, the wind, whether it is high; so many months on -/
def drN (CU : Nat → Int32) (wd hi : Int32) (k b : Nat) : Nat := (driftI (CU (100 * (k % 2) + b)) wd hi (nI b)).toNatClampNeg
theorem drN_s {CU : Nat → Int32} {wd hi : Int32} {k b : Nat} (hb : b < 100) : driftI (CU (100 * (k % 2) + b)) wd hi (nI b) = nI (drN CU wd hi k b) ∧ drN CU wd hi k b < 100 := by
  obtain ⟨b', h1, h2⟩ := driftI_cell (CU (100 * (k % 2) + b)) wd hi hb
  have e : drN CU wd hi k b = b' := by unfold drN; rw [h2]; exact nI_clamp (by omega)
  rw [e]
  exact ⟨h2, h1⟩
def drIt (CU : Nat → Int32) (wd hi : Int32) (b : Nat) : Nat → Nat
  | 0 => b
  | k + 1 => drN CU wd hi k (drIt CU wd hi b k)
theorem drIt_lt {CU : Nat → Int32} {wd hi : Int32} {b : Nat} (hb : b < 100) : ∀ k, drIt CU wd hi b k < 100
  | 0 => hb
  | k + 1 => (drN_s (drIt_lt hb k)).2
theorem nI_r2 {a : Nat} (h : a < 2 ^ 31) : nI a - nI a / 2 * 2 = nI (a % 2) := pk_rem (d := 2) h (by decide) (by decide)
theorem ix_100 {k b : Nat} (hk : k < 2 ^ 31) : (100 : Int32) * (nI k - nI k / 2 * 2) + nI b = nI (100 * (k % 2) + b) := by
  rw [nI_r2 hk, show (100 : Int32) = nI 100 from rfl, pk_mul, nI_add]
set_option maxHeartbeats 4000000 in
theorem am_drifted {l : Launch} {G : GW} {h : AH} {n : Nat} {s : Nat → Int32} {al : Int64} {F34 CU : Nat → Int32} (m33 : h 33 = some (MO s al)) (m34 : h 34 = some (IA 8 F34)) (m37 : h 37 = some (IA 200 CU)) {b k : Nat} {hi : Int32} (hb : b < 100) (hk : k < 100) : AM l G yX4_drifted cX4_drifted 7 (some .int) 2 0 0 [.ref 33, .int (nI b), .int (nI k), .int hi] h n (Qi (nI (drN CU (F34 7) hi k b)) h n) := by
  refine AM.of (L := [some (.ref 33), some (.int (nI b)), some (.int (nI k)), some (.int hi), none, none, none]) (by decide) (Nat.le_of_ble_eq_true rfl) rfl ?_
  refine ew_aload_n (t := 1) dX4_drifted_0 rfl rfl rfl ?_
  refine ew_get (t := 4) (j := 3) (v := .ref 37) fcX4 m33 (Nat.le_of_ble_eq_true rfl) q1024 rfl dX4_drifted_1 rfl ?_
  refine ew_bipush (t := 6) (v := 100) dX4_drifted_4 (by decide) rfl ?_
  refine ew_iload_n (t := 7) dX4_drifted_6 rfl rfl rfl ?_
  refine ew_ic2 (t := 8) dX4_drifted_7 rfl ?_
  refine ew_irem (t := 9) dX4_drifted_8 (by decide) rfl ?_
  refine ew_imul (t := 10) dX4_drifted_9 rfl ?_
  refine ew_iload_n (t := 11) dX4_drifted_10 rfl rfl rfl ?_
  refine ew_iadd (t := 12) dX4_drifted_11 rfl ?_
  refine ew_iald (t := 13) (j := (100 * (k % 2) + b)) (N := 200) m37 (by rw [ix_100 (by omega)]; exact vp_in_nI (by omega) (by omega)) (by rw [ix_100 (by omega)]; exact nI_clamp (by omega)) dX4_drifted_12 rfl ?_
  refine ew_istore (t := 15) (L' := [some (.ref 33), some (.int (nI b)), some (.int (nI k)), some (.int hi), some (.int (CU (100 * (k % 2) + b))), none, none]) dX4_drifted_13 (Nat.le_of_ble_eq_true rfl) rfl rfl ?_
  refine ew_iload (t := 17) dX4_drifted_15 rfl rfl ?_
  refine ew_bipush (t := 19) (v := 8) dX4_drifted_17 (by decide) rfl ?_
  have J33 : ∀ (j33_0 : Int32), j33_0 = ((if ¬ (CU (100 * (k % 2) + b)) = 8 then (goneF (nI b) (CU (100 * (k % 2) + b)) 1) else (nI b)) : Int32) → EW l G yX4_drifted cX4_drifted 7 (some .int) 2 0 0 (Qi (nI (drN CU (F34 7) hi k b)) h n) 0 0 h n 33 [some (.ref 33), some (.int (nI b)), some (.int (nI k)), some (.int hi), some (.int (CU (100 * (k % 2) + b))), none, none] [.int j33_0] := by
    intro j33_0 hj33_0
    refine ew_istore (t := 35) (L' := [some (.ref 33), some (.int (nI b)), some (.int (nI k)), some (.int hi), some (.int (CU (100 * (k % 2) + b))), some (.int j33_0), none]) dX4_drifted_33 (Nat.le_of_ble_eq_true rfl) rfl rfl ?_
    refine ew_iload (t := 37) dX4_drifted_35 rfl rfl ?_
    have J46 : ∀ (j46_0 : Int32), j46_0 = ((if 0 ≤ j33_0 then j33_0 else (nI b)) : Int32) → EW l G yX4_drifted cX4_drifted 7 (some .int) 2 0 0 (Qi (nI (drN CU (F34 7) hi k b)) h n) 0 0 h n 46 [some (.ref 33), some (.int (nI b)), some (.int (nI k)), some (.int hi), some (.int (CU (100 * (k % 2) + b))), some (.int j33_0), none] [.int j46_0] := by
      intro j46_0 hj46_0
      refine ew_istore (t := 48) (L' := [some (.ref 33), some (.int (nI b)), some (.int (nI k)), some (.int hi), some (.int (CU (100 * (k % 2) + b))), some (.int j46_0), none]) dX4_drifted_46 (Nat.le_of_ble_eq_true rfl) rfl rfl ?_
      refine ew_iload_n (t := 49) dX4_drifted_48 rfl rfl rfl ?_
      have J82 : ∀ (j82_0 : Int32), j82_0 = ((if hi = 0 then j46_0 else (if ¬ (F34 7) = 8 then (goneF j46_0 (F34 7) 1) else j46_0)) : Int32) → EW l G yX4_drifted cX4_drifted 7 (some .int) 2 0 0 (Qi (nI (drN CU (F34 7) hi k b)) h n) 0 0 h n 82 [some (.ref 33), some (.int (nI b)), some (.int (nI k)), some (.int hi), some (.int (CU (100 * (k % 2) + b))), some (.int j46_0), none] [.int j82_0] := by
        intro j82_0 hj82_0
        refine ew_istore (t := 84) (L' := [some (.ref 33), some (.int (nI b)), some (.int (nI k)), some (.int hi), some (.int (CU (100 * (k % 2) + b))), some (.int j46_0), some (.int j82_0)]) dX4_drifted_82 (Nat.le_of_ble_eq_true rfl) rfl rfl ?_
        refine ew_iload (t := 86) dX4_drifted_84 rfl rfl ?_
        refine ew_if_ge (t := 94) (t2 := 89) dX4_drifted_86 rfl rfl (fun c_86 => ?_) (fun c_86 => ?_)
        · refine ew_iload (t := 96) dX4_drifted_94 rfl rfl ?_
          exact ew_iret rfl dX4_drifted_96 (Nat.le_refl _) (Nat.le_refl _) ⟨congrArg (fun z => some (Value.int z)) (by rw [← (drN_s hb).1]; unfold driftI; rw [show dr3 (CU (100 * (k % 2) + b)) (F34 7) hi (nI b) = j82_0 from by rw [hj82_0, hj46_0, hj33_0]; rfl, if_pos c_86]), rfl, rfl⟩
        · refine ew_iload (t := 91) dX4_drifted_89 rfl rfl ?_
          refine ew_goto (t := 96) dX4_drifted_91 rfl ?_
          exact ew_iret rfl dX4_drifted_96 (Nat.le_refl _) (Nat.le_refl _) ⟨congrArg (fun z => some (Value.int z)) (by rw [← (drN_s hb).1]; unfold driftI; rw [show dr3 (CU (100 * (k % 2) + b)) (F34 7) hi (nI b) = j82_0 from by rw [hj82_0, hj46_0, hj33_0]; rfl, if_neg c_86]; rw [hj46_0, hj33_0]; rfl), rfl, rfl⟩
      refine ew_if_eq (t := 64) (t2 := 52) dX4_drifted_49 rfl rfl (fun c_49 => ?_) (fun c_49 => ?_)
      · refine ew_iload (t := 66) dX4_drifted_64 rfl rfl ?_
        refine ew_goto (t := 82) dX4_drifted_66 rfl ?_
        exact J82 j46_0 (by simp only [if_pos c_49])
      · refine ew_aload_n (t := 53) dX4_drifted_52 rfl rfl rfl ?_
        refine ew_get (t := 56) (j := 0) (v := .ref 34) fcX4 m33 (Nat.le_of_ble_eq_true rfl) q1021 rfl dX4_drifted_53 rfl ?_
        refine ew_bipush (t := 58) (v := 7) dX4_drifted_56 (by decide) rfl ?_
        refine ew_iald (t := 59) (j := 7) (N := 8) m34 (vpI (by decide)) (by decide) dX4_drifted_58 rfl ?_
        refine ew_bipush (t := 61) (v := 8) dX4_drifted_59 (by decide) rfl ?_
        refine ew_icmp_ne (t := 69) (t2 := 64) dX4_drifted_61 rfl rfl (fun c_61 => ?_) (fun c_61 => ?_)
        · refine ew_iload (t := 71) dX4_drifted_69 rfl rfl ?_
          refine ew_aload_n (t := 72) dX4_drifted_71 rfl rfl rfl ?_
          refine ew_get (t := 75) (j := 0) (v := .ref 34) fcX4 m33 (Nat.le_of_ble_eq_true rfl) q1021 rfl dX4_drifted_72 rfl ?_
          refine ew_bipush (t := 77) (v := 7) dX4_drifted_75 (by decide) rfl ?_
          refine ew_iald (t := 78) (j := 7) (N := 8) m34 (vpI (by decide)) (by decide) dX4_drifted_77 rfl ?_
          refine ew_ic1 (t := 79) dX4_drifted_78 rfl ?_
          refine ew_callS (t := 82) (As := [_, _, _]) (am_gone  _ _ _) (lw_S q1227 q1228 q60 q1229) naX4_gone dX4_drifted_79 rfl (Nat.le_of_ble_eq_true rfl) (Nat.le_of_ble_eq_true rfl) (Nat.le_refl _) (Nat.le_refl _) (Nat.le_of_ble_eq_true rfl) rfl (qi ?_)
          exact J82 (goneF j46_0 (F34 7) 1) (by simp only [if_neg c_49, if_pos c_61])
        · refine ew_iload (t := 66) dX4_drifted_64 rfl rfl ?_
          refine ew_goto (t := 82) dX4_drifted_66 rfl ?_
          exact J82 j46_0 (by simp only [if_neg c_49, if_neg (not_not_intro c_61)])
    refine ew_if_ge (t := 44) (t2 := 40) dX4_drifted_37 rfl rfl (fun c_37 => ?_) (fun c_37 => ?_)
    · refine ew_iload (t := 46) dX4_drifted_44 rfl rfl ?_
      exact J46 j33_0 (by simp only [if_pos c_37])
    · refine ew_iload_n (t := 41) dX4_drifted_40 rfl rfl rfl ?_
      refine ew_goto (t := 46) dX4_drifted_41 rfl ?_
      exact J46 (nI b) (by simp only [if_neg c_37])
  refine ew_icmp_ne (t := 26) (t2 := 22) dX4_drifted_19 rfl rfl (fun c_19 => ?_) (fun c_19 => ?_)
  · refine ew_iload_n (t := 27) dX4_drifted_26 rfl rfl rfl ?_
    refine ew_iload (t := 29) dX4_drifted_27 rfl rfl ?_
    refine ew_ic1 (t := 30) dX4_drifted_29 rfl ?_
    refine ew_callS (t := 33) (As := [_, _, _]) (am_gone  _ _ _) (lw_S q1227 q1228 q60 q1229) naX4_gone dX4_drifted_30 rfl (Nat.le_of_ble_eq_true rfl) (Nat.le_of_ble_eq_true rfl) (Nat.le_refl _) (Nat.le_refl _) (Nat.le_of_ble_eq_true rfl) rfl (qi ?_)
    exact J33 (goneF (nI b) (CU (100 * (k % 2) + b)) 1) (by simp only [if_pos c_19])
  · refine ew_iload_n (t := 23) dX4_drifted_22 rfl rfl rfl ?_
    refine ew_goto (t := 33) dX4_drifted_23 rfl ?_
    exact J33 (nI b) (by simp only [if_neg (not_not_intro c_19)])
set_option maxHeartbeats 4000000 in
theorem lp_driftTo {l : Launch} {G : GW} {h : AH} {n : Nat} {s : Nat → Int32} {al : Int64} {F34 CU : Nat → Int32} (m33 : h 33 = some (MO s al)) (m34 : h 34 = some (IA 8 F34)) (m37 : h 37 = some (IA 200 CU)) {b N : Nat} {hi : Int32} {o1 : Option Value} (hb : b < 100) (hN : N < 100) : ∀ (f k : Nat), k + f = N → EW l G yX4_driftTo cX4_driftTo 6 (some .int) 3 0 0 (Qi (nI (drIt CU (F34 7) hi b N)) h n) 0 0 h n 6 [some (.ref 33), o1, some (.int (nI N)), some (.int hi), some (.int (nI (drIt CU (F34 7) hi b k))), some (.int (nI k))] [] := by
  intro f
  induction f with
  | zero =>
    intro k hk
    refine ew_iload (t := 8) dX4_driftTo_6 rfl rfl ?_
    refine ew_iload_n (t := 9) dX4_driftTo_8 rfl rfl rfl ?_
    refine ew_icmp_ge (t := 29) (t2 := 12) dX4_driftTo_9 rfl rfl (fun c_9 => ?_) (fun c_9 => ?_)
    · refine ew_iload (t := 31) dX4_driftTo_29 rfl rfl ?_
      exact ew_iret rfl dX4_driftTo_31 (Nat.le_refl _) (Nat.le_refl _) ⟨by rw [show k = N by omega], rfl, rfl⟩
    · exact absurd c_9 (by rw [show k = N by omega]; exact not_not_intro (Int32.le_refl _))
  | succ f ih =>
    intro k hk
    refine ew_iload (t := 8) dX4_driftTo_6 rfl rfl ?_
    refine ew_iload_n (t := 9) dX4_driftTo_8 rfl rfl rfl ?_
    refine ew_icmp_ge (t := 29) (t2 := 12) dX4_driftTo_9 rfl rfl (fun c_9 => ?_) (fun c_9 => ?_)
    · exact absurd c_9 (nI_ge (by omega) (by omega))
    · refine ew_aload_n (t := 13) dX4_driftTo_12 rfl rfl rfl ?_
      refine ew_iload (t := 15) dX4_driftTo_13 rfl rfl ?_
      refine ew_iload (t := 17) dX4_driftTo_15 rfl rfl ?_
      refine ew_iload_n (t := 18) dX4_driftTo_17 rfl rfl rfl ?_
      refine ew_callV (t := 21) (As := [_, _, _]) (am_drifted m33 m34 m37 (drIt_lt hb k) (by omega)) (fcX4).1 m33 (lw_V q1282 q1284 qs41 q60 q1285) rfl naX4_drifted dX4_driftTo_18 rfl (Nat.le_of_ble_eq_true rfl) (Nat.le_of_ble_eq_true rfl) (Nat.le_refl _) (Nat.le_refl _) (Nat.le_of_ble_eq_true rfl) rfl (qi ?_)
      refine ew_istore (t := 23) (L' := [some (.ref 33), o1, some (.int (nI N)), some (.int hi), some (.int (nI (drN CU (F34 7) hi k (drIt CU (F34 7) hi b k)))), some (.int (nI k))]) dX4_driftTo_21 (Nat.le_of_ble_eq_true rfl) rfl rfl ?_
      refine ew_iinc (t := 26) (x := (nI k)) (v := ((nI k) + 1)) (L' := [some (.ref 33), o1, some (.int (nI N)), some (.int hi), some (.int (nI (drN CU (F34 7) hi k (drIt CU (F34 7) hi b k)))), some (.int ((nI k) + 1))]) dX4_driftTo_23 rfl rfl (Nat.le_of_ble_eq_true rfl) rfl rfl ?_
      refine ew_goto (t := 6) dX4_driftTo_26 rfl ?_
      rw [nI_1]
      exact ih (k + 1) (by omega)
set_option maxHeartbeats 4000000 in
theorem am_driftTo {l : Launch} {G : GW} {h : AH} {n : Nat} {s : Nat → Int32} {al : Int64} {F34 CU : Nat → Int32} (m33 : h 33 = some (MO s al)) (m34 : h 34 = some (IA 8 F34)) (m37 : h 37 = some (IA 200 CU)) {b N : Nat} {hi : Int32} (hb : b < 100) (hN : N < 100) : AM l G yX4_driftTo cX4_driftTo 6 (some .int) 3 0 0 [.ref 33, .int (nI b), .int (nI N), .int hi] h n (Qi (nI (drIt CU (F34 7) hi b N)) h n) := by
  refine AM.of (L := [some (.ref 33), some (.int (nI b)), some (.int (nI N)), some (.int hi), none, none]) (by decide) (Nat.le_of_ble_eq_true rfl) rfl ?_
  refine ew_iload_n (t := 1) dX4_driftTo_0 rfl rfl rfl ?_
  refine ew_istore (t := 3) (L' := [some (.ref 33), some (.int (nI b)), some (.int (nI N)), some (.int hi), some (.int (nI b)), none]) dX4_driftTo_1 (Nat.le_of_ble_eq_true rfl) rfl rfl ?_
  refine ew_ic0 (t := 4) dX4_driftTo_3 rfl ?_
  refine ew_istore (t := 6) (L' := [some (.ref 33), some (.int (nI b)), some (.int (nI N)), some (.int hi), some (.int (nI b)), some (.int 0)]) dX4_driftTo_4 (Nat.le_of_ble_eq_true rfl) rfl rfl ?_
  exact lp_driftTo m33 m34 m37 hb hN N 0 (by omega)
