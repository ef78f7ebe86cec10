/-! the reference: should -/
set_option maxRecDepth 100000
def shS (SN : Nat → Nat) (CU : Nat → Int32) (wd c hi : Int32) (N : Nat) : Nat → Nat
  | 0 => 0
  | k + 1 => shS SN CU wd c hi N k + (if lN (SN k) ≤ 0 then 0 else if ¬ nI (drIt CU wd hi k N) = c then 0 else SN k)
def shF (SN : Nat → Nat) (AN : Nat) (CU : Nat → Int32) (wd c mo hi part : Int32) : Int64 := if b2i (inI c 0 99) = 0 then -1 else if b2i (inL mo.toInt64 0 24) = 0 then -1 else if b2i (inL hi.toInt64 0 1) = 0 then -1 else if ¬ b2i (inL part.toInt64 0 1) = 0 then (if ¬ lN AN = 0 then lowF (shS SN CU wd c hi mo.toNatClampNeg 100) AN part else -4) else -1
theorem lite {c : Prop} [Decidable c] {a b : Nat} : lN (if c then a else b) = if c then lN a else lN b := by
  by_cases hc : c
  · rw [if_pos hc, if_pos hc]
  · rw [if_neg hc, if_neg hc]
theorem shS_lt {SN : Nat → Nat} {CU : Nat → Int32} {wd c hi : Int32} {N B : Nat} (hS : ∀ j, j < 100 → SN j < B) : ∀ k, k ≤ 100 → shS SN CU wd c hi N k ≤ k * B := by
  intro k
  induction k with
  | zero => intro _; exact Nat.zero_le _
  | succ k ih =>
    intro hk
    have h2 := hS k (by omega)
    rw [shS, Nat.succ_mul]
    refine Nat.add_le_add (ih (by omega)) ?_
    generalize nI (drIt CU wd hi k N) = z
    by_cases c1 : lN (SN k) ≤ 0
    · rw [if_pos c1]; omega
    · rw [if_neg c1]
      by_cases c2 : z = c
      · rw [if_neg (not_not_intro c2)]; omega
      · rw [if_pos c2]; omega
theorem inL24 {c : Int32} (h : ¬ b2i (inL c.toInt64 0 24) = 0) : ∃ j : Nat, j < 100 ∧ c = nI j := by
  have h2 := b2i_1.mp h
  rw [show inL c.toInt64 0 24 = inI c 0 24 from inL_I c 0 24, inI_iff] at h2
  obtain ⟨j, h3, h4⟩ := nI_of2 (M := 24) (n := 24) (by decide) (Int32.not_lt.mpr h2.1) h2.2
  exact ⟨j, by omega, h4⟩
set_option maxHeartbeats 4000000 in
theorem lp_should {l : Launch} {G : GW} {h : AH} {n : Nat} {s : Nat → Int32} {al : Int64} {F : Nat → Nat → Int32} {FL : Nat → Int64} {Q : Option Value → AH → Nat → Prop} (mc : MC s al F FL h) {SN : Nat → Nat} (hFL : ∀ j, j < 100 → FL j = lN (SN j)) {c hi part : Int32} {N : Nat} (hN : N < 100) (kk : EW l G yX4_should cX4_should 8 (some .long) 6 0 0 Q 0 0 h n 120 [some (.ref 33), some (.int c), some (.int (nI N)), some (.int hi), some (.int part), some (.long (lN (shS SN (F 37) (F 34 7) c hi N 100))), none, some (.int (nI 100))] []) : ∀ (f k : Nat), k + f = 100 → EW l G yX4_should cX4_should 8 (some .long) 6 0 0 Q 0 0 h n 67 [some (.ref 33), some (.int c), some (.int (nI N)), some (.int hi), some (.int part), some (.long (lN (shS SN (F 37) (F 34 7) c hi N k))), none, some (.int (nI k))] [] := by
  intro f
  induction f with
  | zero =>
    intro k  hk
    refine ew_iload (t := 69) dX4_should_67 rfl rfl ?_
    refine ew_bipush (t := 71) (v := 100) dX4_should_69 (by decide) rfl ?_
    refine ew_icmp_ge (t := 120) (t2 := 74) dX4_should_71 rfl rfl (fun c_71 => ?_) (fun c_71 => ?_)
    · rw [show k = 100 by omega]
      exact kk
    · exact absurd (show (100 : Int32) ≤ nI k by rw [show k = 100 by omega]; decide) c_71
  | succ f ih =>
    intro k  hk
    refine ew_iload (t := 69) dX4_should_67 rfl rfl ?_
    refine ew_bipush (t := 71) (v := 100) dX4_should_69 (by decide) rfl ?_
    refine ew_icmp_ge (t := 120) (t2 := 74) dX4_should_71 rfl rfl (fun c_71 => ?_) (fun c_71 => ?_)
    · exact absurd c_71 (nI_ge (b := 100) (by omega) (by omega))
    · refine ew_lload (t := 76) dX4_should_74 rfl rfl ?_
      refine ew_aload_n (t := 77) dX4_should_76 rfl rfl rfl ?_
      refine ew_get (t := 80) (j := 30) (v := .ref 55) fcX4 mc.1 (Nat.le_of_ble_eq_true rfl) q1051 rfl dX4_should_77 rfl ?_
      refine ew_iload (t := 82) dX4_should_80 rfl rfl ?_
      refine ew_lald (t := 83) (j := k) (N := 100) mc.2.1 (vp_in_nI (by omega) (by omega)) (nI_clamp (by omega)) dX4_should_82 rfl ?_
      rw [hFL k (by omega)]
      refine ew_lc0 (t := 84) dX4_should_83 rfl ?_
      have J111 : ∀ (j111_0 : Int64), j111_0 = ((if (lN (SN k)) ≤ 0 then 0 else (if ¬ (nI (drIt (F 37) (F 34 7) hi k N)) = c then 0 else (lN (SN k)))) : Int64) → EW l G yX4_should cX4_should 8 (some .long) 6 0 0 Q 0 0 h n 111 [some (.ref 33), some (.int c), some (.int (nI N)), some (.int hi), some (.int part), some (.long (lN (shS SN (F 37) (F 34 7) c hi N k))), none, some (.int (nI k))] [.long j111_0, .long (lN (shS SN (F 37) (F 34 7) c hi N k))] := by
        intro j111_0 hj111_0
        refine ew_ladd (t := 112) dX4_should_111 rfl ?_
        refine ew_lstore (t := 114) (L' := [some (.ref 33), some (.int c), some (.int (nI N)), some (.int hi), some (.int part), some (.long ((lN (shS SN (F 37) (F 34 7) c hi N k)) + j111_0)), none, some (.int (nI k))]) dX4_should_112 (Nat.le_of_ble_eq_true rfl) rfl rfl ?_
        refine ew_iinc (t := 117) (x := (nI k)) (v := ((nI k) + 1)) (L' := [some (.ref 33), some (.int c), some (.int (nI N)), some (.int hi), some (.int part), some (.long ((lN (shS SN (F 37) (F 34 7) c hi N k)) + j111_0)), none, some (.int ((nI k) + 1))]) dX4_should_114 rfl rfl (Nat.le_of_ble_eq_true rfl) rfl rfl ?_
        refine ew_goto (t := 67) dX4_should_117 rfl ?_
        rw [nI_1]
        rw [show lN (shS SN (F 37) (F 34 7) c hi N k) + j111_0 = lN (shS SN (F 37) (F 34 7) c hi N (k + 1)) from by rw [hj111_0, shS, ← lN_add, lite, lite]; rfl]
        exact ih (k + 1) (by omega)
      refine ew_lcmp_le (t1 := 85) (t := 110) (t2 := 88) dX4_should_84 rfl dX4_should_85 rfl rfl (fun c_84 => ?_) (fun c_84 => ?_)
      · refine ew_lc0 (t := 111) dX4_should_110 rfl ?_
        exact J111 0 (by simp only [if_pos c_84])
      · refine ew_aload_n (t := 89) dX4_should_88 rfl rfl rfl ?_
        refine ew_iload (t := 91) dX4_should_89 rfl rfl ?_
        refine ew_iload_n (t := 92) dX4_should_91 rfl rfl rfl ?_
        refine ew_iload_n (t := 93) dX4_should_92 rfl rfl rfl ?_
        refine ew_callV (t := 96) (As := [_, _, _]) (am_driftTo (h := h) (b := k) (N := N) (hi := hi) mc.1 (mI mc 34 rfl) (mI mc 37 rfl) (by omega) hN) (fcX4).1 mc.1 (lw_V q1278 q1280 qs40 q60 q1281) rfl naX4_driftTo dX4_should_93 rfl (Nat.le_of_ble_eq_true rfl) (Nat.le_of_ble_eq_true rfl) (Nat.le_refl _) (Nat.le_refl _) (Nat.le_of_ble_eq_true rfl) rfl (qi ?_)
        refine ew_iload_n (t := 97) dX4_should_96 rfl rfl rfl ?_
        refine ew_icmp_ne (t := 110) (t2 := 100) dX4_should_97 rfl rfl (fun c_97 => ?_) (fun c_97 => ?_)
        · refine ew_lc0 (t := 111) dX4_should_110 rfl ?_
          exact J111 0 (by simp only [if_neg c_84, if_pos c_97])
        · refine ew_aload_n (t := 101) dX4_should_100 rfl rfl rfl ?_
          refine ew_get (t := 104) (j := 30) (v := .ref 55) fcX4 mc.1 (Nat.le_of_ble_eq_true rfl) q1051 rfl dX4_should_101 rfl ?_
          refine ew_iload (t := 106) dX4_should_104 rfl rfl ?_
          refine ew_lald (t := 107) (j := k) (N := 100) mc.2.1 (vp_in_nI (by omega) (by omega)) (nI_clamp (by omega)) dX4_should_106 rfl ?_
          rw [hFL k (by omega)]
          refine ew_goto (t := 111) dX4_should_107 rfl ?_
          exact J111 (lN (SN k)) (by simp only [if_neg c_84, if_neg (not_not_intro c_97)])
set_option maxHeartbeats 4000000 in
theorem mc_should {l : Launch} {G : GW} {h : AH} {n : Nat} {s : Nat → Int32} {al : Int64} {F : Nat → Nat → Int32} {FL : Nat → Int64} {a H g np nd : Nat} (mc : MC s al F FL h) (mk : MKc s F a H g np nd) {ws : List WY} (hE : ∀ R, EnM (F 34) (F 35) (F 36) 0 0 0 a H ws 0 (begR (F 34 1) R)) {SN : Nat → Nat} {AN : Nat} (hS : SumN F 0 0 H g np nd ws SN AN) (c mo hi part : Int32) : AM l G yX4_should cX4_should 8 (some .long) 6 0 0 [.ref 33, .int c, .int mo, .int hi, .int part] h n (OpQ s F h n (.long (shF SN AN (F 37) (F 34 7) c mo hi part))) := by
  refine AM.of (L := [some (.ref 33), some (.int c), some (.int mo), some (.int hi), some (.int part), none, none, none]) (by decide) (Nat.le_of_ble_eq_true rfl) rfl ?_
  refine ew_iload_n (t := 1) dX4_should_0 rfl rfl rfl ?_
  refine ew_callS (t := 4) (As := [_]) (am_isCell  _) (lw_S q1160 q1161 q60 q1162) naX4_isCell dX4_should_1 rfl (Nat.le_of_ble_eq_true rfl) (Nat.le_of_ble_eq_true rfl) (Nat.le_refl _) (Nat.le_refl _) (Nat.le_of_ble_eq_true rfl) rfl (qi ?_)
  refine ew_if_eq (t := 40) (t2 := 7) dX4_should_4 rfl rfl (fun c_4 => ?_) (fun c_4 => ?_)
  · refine ew_ldc2 (t := 43) (v := (-1)) dX4_should_40 q1173 rfl ?_
    exact ew_lret rfl dX4_should_43 (Nat.le_refl _) (Nat.le_refl _) (OpQ.same mc (congrArg Value.long (by unfold shF; rw [if_pos c_4])))
  · refine ew_iload_n (t := 8) dX4_should_7 rfl rfl rfl ?_
    refine ew_i2l (t := 9) dX4_should_8 rfl ?_
    refine ew_lc0 (t := 10) dX4_should_9 rfl ?_
    refine ew_ldc2 (t := 13) (v := 24) dX4_should_10 q1273 rfl ?_
    refine ew_callS (t := 16) (As := [_, _, _]) (am_in _ _ _) (lw_S q1153 q1154 q60 q1155) naX4_in dX4_should_13 rfl (Nat.le_of_ble_eq_true rfl) (Nat.le_of_ble_eq_true rfl) (Nat.le_refl _) (Nat.le_refl _) (Nat.le_of_ble_eq_true rfl) rfl (qi ?_)
    refine ew_if_eq (t := 40) (t2 := 19) dX4_should_16 rfl rfl (fun c_16 => ?_) (fun c_16 => ?_)
    · refine ew_ldc2 (t := 43) (v := (-1)) dX4_should_40 q1173 rfl ?_
      exact ew_lret rfl dX4_should_43 (Nat.le_refl _) (Nat.le_refl _) (OpQ.same mc (congrArg Value.long (by unfold shF; rw [if_neg c_4, if_pos c_16])))
    · refine ew_iload_n (t := 20) dX4_should_19 rfl rfl rfl ?_
      refine ew_i2l (t := 21) dX4_should_20 rfl ?_
      refine ew_lc0 (t := 22) dX4_should_21 rfl ?_
      refine ew_lc1 (t := 23) dX4_should_22 rfl ?_
      refine ew_callS (t := 26) (As := [_, _, _]) (am_in _ _ _) (lw_S q1153 q1154 q60 q1155) naX4_in dX4_should_23 rfl (Nat.le_of_ble_eq_true rfl) (Nat.le_of_ble_eq_true rfl) (Nat.le_refl _) (Nat.le_refl _) (Nat.le_of_ble_eq_true rfl) rfl (qi ?_)
      refine ew_if_eq (t := 40) (t2 := 29) dX4_should_26 rfl rfl (fun c_26 => ?_) (fun c_26 => ?_)
      · refine ew_ldc2 (t := 43) (v := (-1)) dX4_should_40 q1173 rfl ?_
        exact ew_lret rfl dX4_should_43 (Nat.le_refl _) (Nat.le_refl _) (OpQ.same mc (congrArg Value.long (by unfold shF; rw [if_neg c_4, if_neg c_16, if_pos c_26])))
      · refine ew_iload (t := 31) dX4_should_29 rfl rfl ?_
        refine ew_i2l (t := 32) dX4_should_31 rfl ?_
        refine ew_lc0 (t := 33) dX4_should_32 rfl ?_
        refine ew_lc1 (t := 34) dX4_should_33 rfl ?_
        refine ew_callS (t := 37) (As := [_, _, _]) (am_in _ _ _) (lw_S q1153 q1154 q60 q1155) naX4_in dX4_should_34 rfl (Nat.le_of_ble_eq_true rfl) (Nat.le_of_ble_eq_true rfl) (Nat.le_refl _) (Nat.le_refl _) (Nat.le_of_ble_eq_true rfl) rfl (qi ?_)
        refine ew_if_ne (t := 44) (t2 := 40) dX4_should_37 rfl rfl (fun c_37 => ?_) (fun c_37 => ?_)
        · obtain ⟨N, hN, rfl⟩ := inL24 c_16
          refine ew_aload_n (t := 45) dX4_should_44 rfl rfl rfl ?_
          refine ew_callV (t := 48) (As := []) (mc_endsAsTold mc mk hE) (fcX4).1 mc.1 (lw_V q1306 q1308 qs43 q60 q1309) rfl naX4_endsAsTold dX4_should_45 rfl (Nat.le_of_ble_eq_true rfl) (Nat.le_of_ble_eq_true rfl) (Nat.le_refl _) (Nat.le_refl _) (Nat.le_of_ble_eq_true rfl) rfl (fun r h1 n1 q => ?_)
          obtain ⟨rfl, rfl, q3, s', F', q4, q5, q6⟩ := q
          refine ew_aload_n (t := 49) dX4_should_48 rfl rfl rfl ?_
          refine ew_get (t := 52) (j := 31) (v := .long (alF F 0 0 H g np nd ws)) fcX4 q4.1 (Nat.le_of_ble_eq_true rfl) q1052 rfl dX4_should_49 rfl ?_
          rw [hS.2.1]
          refine ew_lc0 (t := 53) dX4_should_52 rfl ?_
          refine ew_lcmp_ne (t1 := 54) (t := 61) (t2 := 57) dX4_should_53 rfl dX4_should_54 rfl rfl (fun c_53 => ?_) (fun c_53 => ?_)
          · refine ew_lc0 (t := 62) dX4_should_61 rfl ?_
            refine ew_lstore (t := 64) (L' := [some (.ref 33), some (.int c), some (.int (nI N)), some (.int hi), some (.int part), some (.long 0), none, none]) dX4_should_62 (Nat.le_of_ble_eq_true rfl) rfl rfl ?_
            refine ew_ic0 (t := 65) dX4_should_64 rfl ?_
            refine ew_istore (t := 67) (L' := [some (.ref 33), some (.int c), some (.int (nI N)), some (.int hi), some (.int part), some (.long 0), none, some (.int 0)]) dX4_should_65 (Nat.le_of_ble_eq_true rfl) rfl rfl ?_
            have hA0 : 0 < AN := Nat.pos_of_ne_zero (fun e => c_53 (by rw [e]; rfl))
            refine lp_should q4 (fun j hj => (hS.1 j hj).1) hN ?_ 100 0 (by omega)
            have hlt := shS_lt (SN := SN) (CU := F' 37) (wd := F' 34 7) (c := c) (hi := hi) (N := N) (fun j hj => (hS.1 j hj).2) 100 (by omega)
            refine ew_lload (t := 122) dX4_should_120 rfl rfl ?_
            refine ew_aload_n (t := 123) dX4_should_122 rfl rfl rfl ?_
            refine ew_get (t := 126) (j := 31) (v := .long (alF F 0 0 H g np nd ws)) fcX4 q4.1 (Nat.le_of_ble_eq_true rfl) q1052 rfl dX4_should_123 rfl ?_
            rw [hS.2.1]
            refine ew_iload (t := 128) dX4_should_126 rfl rfl ?_
            refine ew_callS (t := 131) (As := [_, _, _]) (am_lowest (h := h1) hA0 (by omega) (by have := hS.2.2; omega)) (lw_S q1315 q1316 q60 q1317) naX4_lowest dX4_should_128 rfl (Nat.le_of_ble_eq_true rfl) (Nat.le_of_ble_eq_true rfl) (Nat.le_refl _) (Nat.le_refl _) (Nat.le_of_ble_eq_true rfl) rfl (ql ?_)
            exact ew_lret rfl dX4_should_131 (Nat.le_refl _) (Nat.le_refl _) (OpQ.end q3 q4 q5 q6 (congrArg Value.long (by unfold shF; rw [if_neg c_4, if_neg c_16, if_neg c_26, if_pos c_37, if_pos c_53, q5 37 (by omega), q5 34 (by omega), nI_clamp (n := N) (by omega)])))
          · refine ew_ldc2 (t := 60) (v := (-4)) dX4_should_57 q1314 rfl ?_
            exact ew_lret rfl dX4_should_60 (Nat.le_refl _) (Nat.le_refl _) (OpQ.end q3 q4 q5 q6 (congrArg Value.long (by unfold shF; rw [if_neg c_4, if_neg c_16, if_neg c_26, if_pos c_37, if_neg (not_not_intro c_53)])))
        · refine ew_ldc2 (t := 43) (v := (-1)) dX4_should_40 q1173 rfl ?_
          exact ew_lret rfl dX4_should_43 (Nat.le_refl _) (Nat.le_refl _) (OpQ.same mc (congrArg Value.long (by unfold shF; rw [if_neg c_4, if_neg c_16, if_neg c_26, if_neg (not_not_intro c_37)])))
