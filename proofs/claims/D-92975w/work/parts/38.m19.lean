/-! the reference: count -/
set_option maxRecDepth 100000
def cnF (RF : Nat → Int32) : Nat → Int32
  | 0 => 0
  | k + 1 => cnF RF k + (if 0 ≤ RF (k + 1) then 1 else 0)
def cnT (RT : Nat → Int32) : Nat → Int32
  | 0 => 0
  | k + 1 => cnT RT k + (if RT (k + 1) ≤ 0 then 0 else 1)
def cnS (SN : Nat → Nat) : Nat → Int32
  | 0 => 0
  | k + 1 => cnS SN k + (if lN (SN k) ≤ 0 then 0 else 1)
def cntJ (RF RT : Nat → Int32) (np nd : Nat) (SN : Nat → Nat) : Nat → Int32
  | 0 => cnF RF 6
  | 1 => cnT RT 6
  | 2 => nI np
  | 3 => nI nd
  | _ => cnS SN 100
def cntF (RF RT : Nat → Int32) (np nd : Nat) (SN : Nat → Nat) (what : Int32) : Int32 := if b2i (inL what.toInt64 0 4) = 0 then -1 else cntJ RF RT np nd SN what.toNatClampNeg
theorem in4 {c : Int32} (h : ¬ b2i (inL c.toInt64 0 4) = 0) : ∃ j : Nat, j < 5 ∧ c = nI j := by
  have h2 := b2i_1.mp h
  rw [show inL c.toInt64 0 4 = inI c 0 4 from inL_I c 0 4, inI_iff] at h2
  obtain ⟨j, h3, h4⟩ := nI_of2 (M := 4) (n := 4) (by decide) (Int32.not_lt.mpr h2.1) h2.2
  exact ⟨j, by omega, h4⟩
set_option maxHeartbeats 4000000 in
theorem lp_count0 {l : Launch} {G : GW} {h : AH} {n : Nat} {s : Nat → Int32} {al : Int64} {F : Nat → Nat → Int32} {FL : Nat → Int64} {Q : Option Value → AH → Nat → Prop} (mc : MC s al F FL h) (kk : EW l G yX4_count cX4_count 4 (some .int) 6 0 0 Q 0 0 h n 70 [some (.ref 33), some (.int 0), some (.int (cnF (F 35) 6)), some (.int (nI (6 + 1)))] []) : ∀ (f k : Nat), k + f = 6 → EW l G yX4_count cX4_count 4 (some .int) 6 0 0 Q 0 0 h n 18 [some (.ref 33), some (.int 0), some (.int (cnF (F 35) k)), some (.int (nI (k + 1)))] [] := by
  intro f
  induction f with
  | zero =>
    intro k  hk
    refine ew_iload_n (t := 19) dX4_count_18 rfl rfl rfl ?_
    refine ew_bipush (t := 21) (v := 7) dX4_count_19 (by decide) rfl ?_
    refine ew_icmp_ge (t := 70) (t2 := 24) dX4_count_21 rfl rfl (fun c_21 => ?_) (fun c_21 => ?_)
    · rw [show k = 6 by omega]
      exact kk
    · exact absurd (show (7 : Int32) ≤ nI (k + 1) by rw [show k = 6 by omega]; decide) c_21
  | succ f ih =>
    intro k  hk
    refine ew_iload_n (t := 19) dX4_count_18 rfl rfl rfl ?_
    refine ew_bipush (t := 21) (v := 7) dX4_count_19 (by decide) rfl ?_
    refine ew_icmp_ge (t := 70) (t2 := 24) dX4_count_21 rfl rfl (fun c_21 => ?_) (fun c_21 => ?_)
    · exact absurd c_21 (nI_ge (b := 7) (by omega) (by omega))
    · refine ew_iload_n (t := 25) dX4_count_24 rfl rfl rfl ?_
      refine ew_ic2 (t := 26) dX4_count_25 rfl ?_
      refine ew_icmp_ge (t := 70) (t2 := 29) dX4_count_26 rfl rfl (fun c_26 => ?_) (fun c_26 => ?_)
      · exact absurd c_26 (by decide)
      · refine ew_iload_n (t := 30) dX4_count_29 rfl rfl rfl ?_
        refine ew_iload_n (t := 31) dX4_count_30 rfl rfl rfl ?_
        have J62 : ∀ (j62_0 : Int32), j62_0 = ((if 0 ≤ ((F 35) (k + 1)) then 1 else 0) : Int32) → EW l G yX4_count cX4_count 4 (some .int) 6 0 0 Q 0 0 h n 62 [some (.ref 33), some (.int 0), some (.int (cnF (F 35) k)), some (.int (nI (k + 1)))] [.int j62_0, .int (cnF (F 35) k)] := by
          intro j62_0 hj62_0
          refine ew_iadd (t := 63) dX4_count_62 rfl ?_
          refine ew_istore_n (t := 64) (L' := [some (.ref 33), some (.int 0), some (.int ((cnF (F 35) k) + j62_0)), some (.int (nI (k + 1)))]) dX4_count_63 rfl (Nat.le_of_ble_eq_true rfl) rfl rfl ?_
          refine ew_iinc (t := 67) (x := (nI (k + 1))) (v := ((nI (k + 1)) + 1)) (L' := [some (.ref 33), some (.int 0), some (.int ((cnF (F 35) k) + j62_0)), some (.int ((nI (k + 1)) + 1))]) dX4_count_64 rfl rfl (Nat.le_of_ble_eq_true rfl) rfl rfl ?_
          refine ew_goto (t := 18) dX4_count_67 rfl ?_
          rw [nI_1]
          rw [show cnF (F 35) k + j62_0 = cnF (F 35) (k + 1) from by rw [hj62_0]; rfl]
          exact ih (k + 1) (by omega)
        refine ew_if_ne (t := 43) (t2 := 34) dX4_count_31 rfl rfl (fun c_31 => ?_) (fun c_31 => ?_)
        · exact absurd c_31 (by decide)
        · refine ew_aload_n (t := 35) dX4_count_34 rfl rfl rfl ?_
          refine ew_get (t := 38) (j := 1) (v := .ref 35) fcX4 mc.1 (Nat.le_of_ble_eq_true rfl) q1022 rfl dX4_count_35 rfl ?_
          refine ew_iload_n (t := 39) dX4_count_38 rfl rfl rfl ?_
          refine ew_iald (t := 40) (j := (k + 1)) (N := 7) (mI mc 35 rfl) (vp_in_nI (by omega) (by omega)) (nI_clamp (by omega)) dX4_count_39 rfl ?_
          refine ew_if_ge (t := 57) (t2 := 43) dX4_count_40 rfl rfl (fun c_40 => ?_) (fun c_40 => ?_)
          · refine ew_ic1 (t := 58) dX4_count_57 rfl ?_
            refine ew_goto (t := 62) dX4_count_58 rfl ?_
            exact J62 1 (by simp only [if_neg (not_not_intro c_31), if_pos c_40])
          · refine ew_iload_n (t := 44) dX4_count_43 rfl rfl rfl ?_
            refine ew_ic1 (t := 45) dX4_count_44 rfl ?_
            refine ew_icmp_ne (t := 61) (t2 := 48) dX4_count_45 rfl rfl (fun c_45 => ?_) (fun c_45 => ?_)
            · refine ew_ic0 (t := 62) dX4_count_61 rfl ?_
              exact J62 0 (by simp only [if_neg (not_not_intro c_31), if_neg c_40, if_pos c_45])
            · exact absurd c_45 (by decide)
set_option maxHeartbeats 4000000 in
theorem lp_count1 {l : Launch} {G : GW} {h : AH} {n : Nat} {s : Nat → Int32} {al : Int64} {F : Nat → Nat → Int32} {FL : Nat → Int64} {Q : Option Value → AH → Nat → Prop} (mc : MC s al F FL h) (kk : EW l G yX4_count cX4_count 4 (some .int) 6 0 0 Q 0 0 h n 70 [some (.ref 33), some (.int 1), some (.int (cnT (F 36) 6)), some (.int (nI (6 + 1)))] []) : ∀ (f k : Nat), k + f = 6 → EW l G yX4_count cX4_count 4 (some .int) 6 0 0 Q 0 0 h n 18 [some (.ref 33), some (.int 1), some (.int (cnT (F 36) k)), some (.int (nI (k + 1)))] [] := by
  intro f
  induction f with
  | zero =>
    intro k  hk
    refine ew_iload_n (t := 19) dX4_count_18 rfl rfl rfl ?_
    refine ew_bipush (t := 21) (v := 7) dX4_count_19 (by decide) rfl ?_
    refine ew_icmp_ge (t := 70) (t2 := 24) dX4_count_21 rfl rfl (fun c_21 => ?_) (fun c_21 => ?_)
    · rw [show k = 6 by omega]
      exact kk
    · exact absurd (show (7 : Int32) ≤ nI (k + 1) by rw [show k = 6 by omega]; decide) c_21
  | succ f ih =>
    intro k  hk
    refine ew_iload_n (t := 19) dX4_count_18 rfl rfl rfl ?_
    refine ew_bipush (t := 21) (v := 7) dX4_count_19 (by decide) rfl ?_
    refine ew_icmp_ge (t := 70) (t2 := 24) dX4_count_21 rfl rfl (fun c_21 => ?_) (fun c_21 => ?_)
    · exact absurd c_21 (nI_ge (b := 7) (by omega) (by omega))
    · refine ew_iload_n (t := 25) dX4_count_24 rfl rfl rfl ?_
      refine ew_ic2 (t := 26) dX4_count_25 rfl ?_
      refine ew_icmp_ge (t := 70) (t2 := 29) dX4_count_26 rfl rfl (fun c_26 => ?_) (fun c_26 => ?_)
      · exact absurd c_26 (by decide)
      · refine ew_iload_n (t := 30) dX4_count_29 rfl rfl rfl ?_
        refine ew_iload_n (t := 31) dX4_count_30 rfl rfl rfl ?_
        have J62 : ∀ (j62_0 : Int32), j62_0 = ((if ((F 36) (k + 1)) ≤ 0 then 0 else 1) : Int32) → EW l G yX4_count cX4_count 4 (some .int) 6 0 0 Q 0 0 h n 62 [some (.ref 33), some (.int 1), some (.int (cnT (F 36) k)), some (.int (nI (k + 1)))] [.int j62_0, .int (cnT (F 36) k)] := by
          intro j62_0 hj62_0
          refine ew_iadd (t := 63) dX4_count_62 rfl ?_
          refine ew_istore_n (t := 64) (L' := [some (.ref 33), some (.int 1), some (.int ((cnT (F 36) k) + j62_0)), some (.int (nI (k + 1)))]) dX4_count_63 rfl (Nat.le_of_ble_eq_true rfl) rfl rfl ?_
          refine ew_iinc (t := 67) (x := (nI (k + 1))) (v := ((nI (k + 1)) + 1)) (L' := [some (.ref 33), some (.int 1), some (.int ((cnT (F 36) k) + j62_0)), some (.int ((nI (k + 1)) + 1))]) dX4_count_64 rfl rfl (Nat.le_of_ble_eq_true rfl) rfl rfl ?_
          refine ew_goto (t := 18) dX4_count_67 rfl ?_
          rw [nI_1]
          rw [show cnT (F 36) k + j62_0 = cnT (F 36) (k + 1) from by rw [hj62_0]; rfl]
          exact ih (k + 1) (by omega)
        refine ew_if_ne (t := 43) (t2 := 34) dX4_count_31 rfl rfl (fun c_31 => ?_) (fun c_31 => ?_)
        · refine ew_iload_n (t := 44) dX4_count_43 rfl rfl rfl ?_
          refine ew_ic1 (t := 45) dX4_count_44 rfl ?_
          refine ew_icmp_ne (t := 61) (t2 := 48) dX4_count_45 rfl rfl (fun c_45 => ?_) (fun c_45 => ?_)
          · exact absurd c_45 (by decide)
          · refine ew_aload_n (t := 49) dX4_count_48 rfl rfl rfl ?_
            refine ew_get (t := 52) (j := 2) (v := .ref 36) fcX4 mc.1 (Nat.le_of_ble_eq_true rfl) q1023 rfl dX4_count_49 rfl ?_
            refine ew_iload_n (t := 53) dX4_count_52 rfl rfl rfl ?_
            refine ew_iald (t := 54) (j := (k + 1)) (N := 7) (mI mc 36 rfl) (vp_in_nI (by omega) (by omega)) (nI_clamp (by omega)) dX4_count_53 rfl ?_
            refine ew_if_le (t := 61) (t2 := 57) dX4_count_54 rfl rfl (fun c_54 => ?_) (fun c_54 => ?_)
            · refine ew_ic0 (t := 62) dX4_count_61 rfl ?_
              exact J62 0 (by simp only [if_pos c_31, if_neg (not_not_intro c_45), if_pos c_54])
            · refine ew_ic1 (t := 58) dX4_count_57 rfl ?_
              refine ew_goto (t := 62) dX4_count_58 rfl ?_
              exact J62 1 (by simp only [if_pos c_31, if_neg (not_not_intro c_45), if_neg c_54])
        · exact absurd c_31 (by decide)
set_option maxHeartbeats 4000000 in
theorem lp_count4 {l : Launch} {G : GW} {h : AH} {n : Nat} {s : Nat → Int32} {al : Int64} {F : Nat → Nat → Int32} {FL : Nat → Int64} {Q : Option Value → AH → Nat → Prop} (mc : MC s al F FL h) {SN : Nat → Nat} (hFL : ∀ j, j < 100 → FL j = lN (SN j)) (hq : Q (some (.int (cnS SN 100))) h n) : ∀ (f k : Nat), k + f = 100 → EW l G yX4_count cX4_count 4 (some .int) 6 0 0 Q 0 0 h n 81 [some (.ref 33), some (.int 4), some (.int (cnS SN k)), some (.int (nI k))] [] := by
  intro f
  induction f with
  | zero =>
    intro k  hk
    refine ew_iload_n (t := 82) dX4_count_81 rfl rfl rfl ?_
    refine ew_bipush (t := 84) (v := 100) dX4_count_82 (by decide) rfl ?_
    refine ew_icmp_ge (t := 112) (t2 := 87) dX4_count_84 rfl rfl (fun c_84 => ?_) (fun c_84 => ?_)
    · refine ew_iload_n (t := 113) dX4_count_112 rfl rfl rfl ?_
      refine ew_ic2 (t := 114) dX4_count_113 rfl ?_
      refine ew_icmp_ne (t := 124) (t2 := 117) dX4_count_114 rfl rfl (fun c_114 => ?_) (fun c_114 => ?_)
      · refine ew_iload_n (t := 125) dX4_count_124 rfl rfl rfl ?_
        refine ew_ic3 (t := 126) dX4_count_125 rfl ?_
        refine ew_icmp_ne (t := 136) (t2 := 129) dX4_count_126 rfl rfl (fun c_126 => ?_) (fun c_126 => ?_)
        · refine ew_iload_n (t := 137) dX4_count_136 rfl rfl rfl ?_
          exact ew_iret rfl dX4_count_137 (Nat.le_refl _) (Nat.le_refl _) (by rw [show k = 100 by omega]; exact hq)
        · exact absurd c_126 (by decide)
      · exact absurd c_114 (by decide)
    · exact absurd (show (100 : Int32) ≤ nI k by rw [show k = 100 by omega]; decide) c_84
  | succ f ih =>
    intro k  hk
    refine ew_iload_n (t := 82) dX4_count_81 rfl rfl rfl ?_
    refine ew_bipush (t := 84) (v := 100) dX4_count_82 (by decide) rfl ?_
    refine ew_icmp_ge (t := 112) (t2 := 87) dX4_count_84 rfl rfl (fun c_84 => ?_) (fun c_84 => ?_)
    · exact absurd c_84 (nI_ge (b := 100) (by omega) (by omega))
    · refine ew_iload_n (t := 88) dX4_count_87 rfl rfl rfl ?_
      refine ew_aload_n (t := 89) dX4_count_88 rfl rfl rfl ?_
      refine ew_get (t := 92) (j := 30) (v := .ref 55) fcX4 mc.1 (Nat.le_of_ble_eq_true rfl) q1051 rfl dX4_count_89 rfl ?_
      refine ew_iload_n (t := 93) dX4_count_92 rfl rfl rfl ?_
      refine ew_lald (t := 94) (j := k) (N := 100) mc.2.1 (vp_in_nI (by omega) (by omega)) (nI_clamp (by omega)) dX4_count_93 rfl ?_
      rw [hFL k (by omega)]
      refine ew_lc0 (t := 95) dX4_count_94 rfl ?_
      have J104 : ∀ (j104_0 : Int32), j104_0 = ((if (lN (SN k)) ≤ 0 then 0 else 1) : Int32) → EW l G yX4_count cX4_count 4 (some .int) 6 0 0 Q 0 0 h n 104 [some (.ref 33), some (.int 4), some (.int (cnS SN k)), some (.int (nI k))] [.int j104_0, .int (cnS SN k)] := by
        intro j104_0 hj104_0
        refine ew_iadd (t := 105) dX4_count_104 rfl ?_
        refine ew_istore_n (t := 106) (L' := [some (.ref 33), some (.int 4), some (.int ((cnS SN k) + j104_0)), some (.int (nI k))]) dX4_count_105 rfl (Nat.le_of_ble_eq_true rfl) rfl rfl ?_
        refine ew_iinc (t := 109) (x := (nI k)) (v := ((nI k) + 1)) (L' := [some (.ref 33), some (.int 4), some (.int ((cnS SN k) + j104_0)), some (.int ((nI k) + 1))]) dX4_count_106 rfl rfl (Nat.le_of_ble_eq_true rfl) rfl rfl ?_
        refine ew_goto (t := 81) dX4_count_109 rfl ?_
        rw [nI_1]
        rw [show cnS SN k + j104_0 = cnS SN (k + 1) from by rw [hj104_0]; rfl]
        exact ih (k + 1) (by omega)
      refine ew_lcmp_le (t1 := 96) (t := 103) (t2 := 99) dX4_count_95 rfl dX4_count_96 rfl rfl (fun c_95 => ?_) (fun c_95 => ?_)
      · refine ew_ic0 (t := 104) dX4_count_103 rfl ?_
        exact J104 0 (by simp only [if_pos c_95])
      · refine ew_ic1 (t := 100) dX4_count_99 rfl ?_
        refine ew_goto (t := 104) dX4_count_100 rfl ?_
        exact J104 1 (by simp only [if_neg c_95])
set_option maxHeartbeats 4000000 in
theorem mc_count {l : Launch} {G : GW} {h : AH} {n : Nat} {s : Nat → Int32} {al : Int64} {F : Nat → Nat → Int32} {FL : Nat → Int64} {a H g np nd : Nat} (mc : MC s al F FL h) (mk : MKc s F a H g np nd) {ws : List WY} (hE : ∀ R, EnM (F 34) (F 35) (F 36) 0 0 0 a H ws 0 (begR (F 34 1) R)) {SN : Nat → Nat} {AN : Nat} (hS : SumN F 0 0 H g np nd ws SN AN) (what : Int32) : AM l G yX4_count cX4_count 4 (some .int) 6 0 0 [.ref 33, .int what] h n (OpQ s F h n (.int (cntF (F 35) (F 36) np nd SN what))) := by
  refine AM.of (L := [some (.ref 33), some (.int what), none, none]) (by decide) (Nat.le_of_ble_eq_true rfl) rfl ?_
  refine ew_iload_n (t := 1) dX4_count_0 rfl rfl rfl ?_
  refine ew_i2l (t := 2) dX4_count_1 rfl ?_
  refine ew_lc0 (t := 3) dX4_count_2 rfl ?_
  refine ew_ldc2 (t := 6) (v := 4) dX4_count_3 q1326 rfl ?_
  refine ew_callS (t := 9) (As := [_, _, _]) (am_in _ _ _) (lw_S q1153 q1154 q60 q1155) naX4_in dX4_count_6 rfl (Nat.le_of_ble_eq_true rfl) (Nat.le_of_ble_eq_true rfl) (Nat.le_refl _) (Nat.le_refl _) (Nat.le_of_ble_eq_true rfl) rfl (qi ?_)
  refine ew_if_ne (t := 14) (t2 := 12) dX4_count_9 rfl rfl (fun c_9 => ?_) (fun c_9 => ?_)
  · obtain ⟨j, hj, rfl⟩ := in4 c_9
    rw [show cntF (F 35) (F 36) np nd SN (nI j) = cntJ (F 35) (F 36) np nd SN j from by unfold cntF; rw [if_neg c_9, nI_clamp (n := j) (by omega)]]
    clear c_9
    match j, hj with
    | 0, _ =>
      refine ew_ic0 (t := 15) dX4_count_14 rfl ?_
      refine ew_istore_n (t := 16) (L' := [some (.ref 33), some (.int 0), some (.int 0), none]) dX4_count_15 rfl (Nat.le_of_ble_eq_true rfl) rfl rfl ?_
      refine ew_ic1 (t := 17) dX4_count_16 rfl ?_
      refine ew_istore_n (t := 18) (L' := [some (.ref 33), some (.int 0), some (.int 0), some (.int 1)]) dX4_count_17 rfl (Nat.le_of_ble_eq_true rfl) rfl rfl ?_
      refine lp_count0 mc ?_ 6 0 (by omega)
      refine ew_iload_n (t := 71) dX4_count_70 rfl rfl rfl ?_
      refine ew_ic4 (t := 72) dX4_count_71 rfl ?_
      refine ew_icmp_ne (t := 112) (t2 := 75) dX4_count_72 rfl rfl (fun c_72 => ?_) (fun c_72 => ?_)
      · refine ew_iload_n (t := 113) dX4_count_112 rfl rfl rfl ?_
        refine ew_ic2 (t := 114) dX4_count_113 rfl ?_
        refine ew_icmp_ne (t := 124) (t2 := 117) dX4_count_114 rfl rfl (fun c_114 => ?_) (fun c_114 => ?_)
        · refine ew_iload_n (t := 125) dX4_count_124 rfl rfl rfl ?_
          refine ew_ic3 (t := 126) dX4_count_125 rfl ?_
          refine ew_icmp_ne (t := 136) (t2 := 129) dX4_count_126 rfl rfl (fun c_126 => ?_) (fun c_126 => ?_)
          · refine ew_iload_n (t := 137) dX4_count_136 rfl rfl rfl ?_
            exact ew_iret rfl dX4_count_137 (Nat.le_refl _) (Nat.le_refl _) (OpQ.same mc rfl)
          · exact absurd c_126 (by decide)
        · exact absurd c_114 (by decide)
      · exact absurd c_72 (by decide)
    | 1, _ =>
      refine ew_ic0 (t := 15) dX4_count_14 rfl ?_
      refine ew_istore_n (t := 16) (L' := [some (.ref 33), some (.int 1), some (.int 0), none]) dX4_count_15 rfl (Nat.le_of_ble_eq_true rfl) rfl rfl ?_
      refine ew_ic1 (t := 17) dX4_count_16 rfl ?_
      refine ew_istore_n (t := 18) (L' := [some (.ref 33), some (.int 1), some (.int 0), some (.int 1)]) dX4_count_17 rfl (Nat.le_of_ble_eq_true rfl) rfl rfl ?_
      refine lp_count1 mc ?_ 6 0 (by omega)
      refine ew_iload_n (t := 71) dX4_count_70 rfl rfl rfl ?_
      refine ew_ic4 (t := 72) dX4_count_71 rfl ?_
      refine ew_icmp_ne (t := 112) (t2 := 75) dX4_count_72 rfl rfl (fun c_72 => ?_) (fun c_72 => ?_)
      · refine ew_iload_n (t := 113) dX4_count_112 rfl rfl rfl ?_
        refine ew_ic2 (t := 114) dX4_count_113 rfl ?_
        refine ew_icmp_ne (t := 124) (t2 := 117) dX4_count_114 rfl rfl (fun c_114 => ?_) (fun c_114 => ?_)
        · refine ew_iload_n (t := 125) dX4_count_124 rfl rfl rfl ?_
          refine ew_ic3 (t := 126) dX4_count_125 rfl ?_
          refine ew_icmp_ne (t := 136) (t2 := 129) dX4_count_126 rfl rfl (fun c_126 => ?_) (fun c_126 => ?_)
          · refine ew_iload_n (t := 137) dX4_count_136 rfl rfl rfl ?_
            exact ew_iret rfl dX4_count_137 (Nat.le_refl _) (Nat.le_refl _) (OpQ.same mc rfl)
          · exact absurd c_126 (by decide)
        · exact absurd c_114 (by decide)
      · exact absurd c_72 (by decide)
    | 2, _ =>
      refine ew_ic0 (t := 15) dX4_count_14 rfl ?_
      refine ew_istore_n (t := 16) (L' := [some (.ref 33), some (.int 2), some (.int 0), none]) dX4_count_15 rfl (Nat.le_of_ble_eq_true rfl) rfl rfl ?_
      refine ew_ic1 (t := 17) dX4_count_16 rfl ?_
      refine ew_istore_n (t := 18) (L' := [some (.ref 33), some (.int 2), some (.int 0), some (.int 1)]) dX4_count_17 rfl (Nat.le_of_ble_eq_true rfl) rfl rfl ?_
      refine ew_iload_n (t := 19) dX4_count_18 rfl rfl rfl ?_
      refine ew_bipush (t := 21) (v := 7) dX4_count_19 (by decide) rfl ?_
      refine ew_icmp_ge (t := 70) (t2 := 24) dX4_count_21 rfl rfl (fun c_21 => ?_) (fun c_21 => ?_)
      · exact absurd c_21 (by decide)
      · refine ew_iload_n (t := 25) dX4_count_24 rfl rfl rfl ?_
        refine ew_ic2 (t := 26) dX4_count_25 rfl ?_
        refine ew_icmp_ge (t := 70) (t2 := 29) dX4_count_26 rfl rfl (fun c_26 => ?_) (fun c_26 => ?_)
        · refine ew_iload_n (t := 71) dX4_count_70 rfl rfl rfl ?_
          refine ew_ic4 (t := 72) dX4_count_71 rfl ?_
          refine ew_icmp_ne (t := 112) (t2 := 75) dX4_count_72 rfl rfl (fun c_72 => ?_) (fun c_72 => ?_)
          · refine ew_iload_n (t := 113) dX4_count_112 rfl rfl rfl ?_
            refine ew_ic2 (t := 114) dX4_count_113 rfl ?_
            refine ew_icmp_ne (t := 124) (t2 := 117) dX4_count_114 rfl rfl (fun c_114 => ?_) (fun c_114 => ?_)
            · exact absurd c_114 (by decide)
            · refine ew_aload_n (t := 118) dX4_count_117 rfl rfl rfl ?_
              refine ew_get (t := 121) (j := 25) (v := .int (s 25)) fcX4 mc.1 (Nat.le_of_ble_eq_true rfl) q1046 rfl dX4_count_118 rfl ?_
              refine ew_goto (t := 137) dX4_count_121 rfl ?_
              exact ew_iret rfl dX4_count_137 (Nat.le_refl _) (Nat.le_refl _) (OpQ.same mc (congrArg Value.int mk.2.2.2.2.2.2.2.2.1))
          · exact absurd c_72 (by decide)
        · exact absurd c_26 (by decide)
    | 3, _ =>
      refine ew_ic0 (t := 15) dX4_count_14 rfl ?_
      refine ew_istore_n (t := 16) (L' := [some (.ref 33), some (.int 3), some (.int 0), none]) dX4_count_15 rfl (Nat.le_of_ble_eq_true rfl) rfl rfl ?_
      refine ew_ic1 (t := 17) dX4_count_16 rfl ?_
      refine ew_istore_n (t := 18) (L' := [some (.ref 33), some (.int 3), some (.int 0), some (.int 1)]) dX4_count_17 rfl (Nat.le_of_ble_eq_true rfl) rfl rfl ?_
      refine ew_iload_n (t := 19) dX4_count_18 rfl rfl rfl ?_
      refine ew_bipush (t := 21) (v := 7) dX4_count_19 (by decide) rfl ?_
      refine ew_icmp_ge (t := 70) (t2 := 24) dX4_count_21 rfl rfl (fun c_21 => ?_) (fun c_21 => ?_)
      · exact absurd c_21 (by decide)
      · refine ew_iload_n (t := 25) dX4_count_24 rfl rfl rfl ?_
        refine ew_ic2 (t := 26) dX4_count_25 rfl ?_
        refine ew_icmp_ge (t := 70) (t2 := 29) dX4_count_26 rfl rfl (fun c_26 => ?_) (fun c_26 => ?_)
        · refine ew_iload_n (t := 71) dX4_count_70 rfl rfl rfl ?_
          refine ew_ic4 (t := 72) dX4_count_71 rfl ?_
          refine ew_icmp_ne (t := 112) (t2 := 75) dX4_count_72 rfl rfl (fun c_72 => ?_) (fun c_72 => ?_)
          · refine ew_iload_n (t := 113) dX4_count_112 rfl rfl rfl ?_
            refine ew_ic2 (t := 114) dX4_count_113 rfl ?_
            refine ew_icmp_ne (t := 124) (t2 := 117) dX4_count_114 rfl rfl (fun c_114 => ?_) (fun c_114 => ?_)
            · refine ew_iload_n (t := 125) dX4_count_124 rfl rfl rfl ?_
              refine ew_ic3 (t := 126) dX4_count_125 rfl ?_
              refine ew_icmp_ne (t := 136) (t2 := 129) dX4_count_126 rfl rfl (fun c_126 => ?_) (fun c_126 => ?_)
              · exact absurd c_126 (by decide)
              · refine ew_aload_n (t := 130) dX4_count_129 rfl rfl rfl ?_
                refine ew_get (t := 133) (j := 27) (v := .int (s 27)) fcX4 mc.1 (Nat.le_of_ble_eq_true rfl) q1048 rfl dX4_count_130 rfl ?_
                refine ew_goto (t := 137) dX4_count_133 rfl ?_
                exact ew_iret rfl dX4_count_137 (Nat.le_refl _) (Nat.le_refl _) (OpQ.same mc (congrArg Value.int mk.2.2.2.2.2.2.2.2.2.2.1))
            · exact absurd c_114 (by decide)
          · exact absurd c_72 (by decide)
        · exact absurd c_26 (by decide)
    | 4, _ =>
      refine ew_ic0 (t := 15) dX4_count_14 rfl ?_
      refine ew_istore_n (t := 16) (L' := [some (.ref 33), some (.int 4), some (.int 0), none]) dX4_count_15 rfl (Nat.le_of_ble_eq_true rfl) rfl rfl ?_
      refine ew_ic1 (t := 17) dX4_count_16 rfl ?_
      refine ew_istore_n (t := 18) (L' := [some (.ref 33), some (.int 4), some (.int 0), some (.int 1)]) dX4_count_17 rfl (Nat.le_of_ble_eq_true rfl) rfl rfl ?_
      refine ew_iload_n (t := 19) dX4_count_18 rfl rfl rfl ?_
      refine ew_bipush (t := 21) (v := 7) dX4_count_19 (by decide) rfl ?_
      refine ew_icmp_ge (t := 70) (t2 := 24) dX4_count_21 rfl rfl (fun c_21 => ?_) (fun c_21 => ?_)
      · exact absurd c_21 (by decide)
      · refine ew_iload_n (t := 25) dX4_count_24 rfl rfl rfl ?_
        refine ew_ic2 (t := 26) dX4_count_25 rfl ?_
        refine ew_icmp_ge (t := 70) (t2 := 29) dX4_count_26 rfl rfl (fun c_26 => ?_) (fun c_26 => ?_)
        · refine ew_iload_n (t := 71) dX4_count_70 rfl rfl rfl ?_
          refine ew_ic4 (t := 72) dX4_count_71 rfl ?_
          refine ew_icmp_ne (t := 112) (t2 := 75) dX4_count_72 rfl rfl (fun c_72 => ?_) (fun c_72 => ?_)
          · exact absurd c_72 (by decide)
          · refine ew_aload_n (t := 76) dX4_count_75 rfl rfl rfl ?_
            refine ew_callV (t := 79) (As := []) (mc_endsAsTold mc mk hE) (fcX4).1 mc.1 (lw_V q1306 q1308 qs43 q60 q1309) rfl naX4_endsAsTold dX4_count_76 rfl (Nat.le_of_ble_eq_true rfl) (Nat.le_of_ble_eq_true rfl) (Nat.le_refl _) (Nat.le_refl _) (Nat.le_of_ble_eq_true rfl) rfl (fun r h1 n1 q => ?_)
            obtain ⟨rfl, rfl, q3, s', F', q4, q5, q6⟩ := q
            refine ew_ic0 (t := 80) dX4_count_79 rfl ?_
            refine ew_istore_n (t := 81) (L' := [some (.ref 33), some (.int 4), some (.int 0), some (.int 0)]) dX4_count_80 rfl (Nat.le_of_ble_eq_true rfl) rfl rfl ?_
            exact lp_count4 q4 (fun j hj => (hS.1 j hj).1) (OpQ.end q3 q4 q5 q6 rfl) 100 0 (by omega)
        · exact absurd c_26 (by decide)
  · refine ew_icm1 (t := 13) dX4_count_12 rfl ?_
    exact ew_iret rfl dX4_count_13 (Nat.le_refl _) (Nat.le_refl _) (OpQ.same mc (congrArg Value.int (by unfold cntF; rw [if_pos c_9])))
