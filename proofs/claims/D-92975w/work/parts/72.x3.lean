-- Obj fields dict_keys(['cls', 'fun', 'sname', 'refs', 'extra', 'ups'])
/-! the component: hasRing, ringOf -/
set_option maxRecDepth 100000
def hrX (any wo hh : Int32) : Int32 := if ¬ any = 0 then 0 else if wo = hh - 1 then 0 else 1
def tnX (wo tone : Int32) : Int32 := if ¬ wo = 6 then tone else 0
def offX (rf far : Int32) : Int32 := if 0 ≤ rf then (if 0 ≤ rf - far then rf - far else 0 - (rf - far)) else 0
def rgV (far rf : Int32) : Int32 := if 0 ≤ rf then (if ¬ offX rf far = 0 then (if ¬ offX rf far = 1 then 0 else 1) else 2) else 1
def rgW (tone far was rf : Int32) : Int32 := if ¬ tone = 2 then rgV far rf else if was < far then rgV far rf else 0
def rgY (tone far was rf : Int32) : Int32 := if ¬ tone = 1 then rgW tone far was rf else if was ≤ far then 0 else rgW tone far was rf
def rgX (any wo hh far was tone rf : Int32) : Int32 := if ¬ hrX any wo hh = 0 then rgY (tnX wo tone) far was rf else 1
set_option maxHeartbeats 4000000 in
theorem ax_hasRing {l : Launch} {G : GW} {h : AH} {n : Nat} {s : Nat → Int32} (x1 : h 1 = some (XO s)) (hh : Int32) : AM l G yX0_hasRing cX0_hasRing 2 (some .boolean) 0 0 0 [.ref 1, .int hh] h n (Qi (hrX (s 15) (s 14) hh) h n) := by
  refine AM.of (L := [some (.ref 1), some (.int hh)]) (by decide) (Nat.le_of_ble_eq_true rfl) rfl ?_
  refine ew_aload_n (t := 1) dX0_hasRing_0 rfl rfl rfl ?_
  refine ew_get (t := 4) (j := 15) (v := .int (s 15)) fcX0 x1 (Nat.le_of_ble_eq_true rfl) q277 rfl dX0_hasRing_1 rfl ?_
  refine ew_if_ne (t := 21) (t2 := 7) dX0_hasRing_4 rfl rfl (fun c_4 => ?_) (fun c_4 => ?_)
  · refine ew_ic0 (t := 22) dX0_hasRing_21 rfl ?_
    exact ew_zret rfl (by decide) dX0_hasRing_22 (Nat.le_refl _) (Nat.le_refl _) ⟨by unfold hrX; rw [if_pos c_4], rfl, rfl⟩
  · refine ew_aload_n (t := 8) dX0_hasRing_7 rfl rfl rfl ?_
    refine ew_get (t := 11) (j := 14) (v := .int (s 14)) fcX0 x1 (Nat.le_of_ble_eq_true rfl) q276 rfl dX0_hasRing_8 rfl ?_
    refine ew_iload_n (t := 12) dX0_hasRing_11 rfl rfl rfl ?_
    refine ew_ic1 (t := 13) dX0_hasRing_12 rfl ?_
    refine ew_isub (t := 14) dX0_hasRing_13 rfl ?_
    refine ew_icmp_eq (t := 21) (t2 := 17) dX0_hasRing_14 rfl rfl (fun c_14 => ?_) (fun c_14 => ?_)
    · refine ew_ic0 (t := 22) dX0_hasRing_21 rfl ?_
      exact ew_zret rfl (by decide) dX0_hasRing_22 (Nat.le_refl _) (Nat.le_refl _) ⟨by unfold hrX; rw [if_neg (not_not_intro c_4), if_pos c_14], rfl, rfl⟩
    · refine ew_ic1 (t := 18) dX0_hasRing_17 rfl ?_
      refine ew_goto (t := 22) dX0_hasRing_18 rfl ?_
      exact ew_zret rfl (by decide) dX0_hasRing_22 (Nat.le_refl _) (Nat.le_refl _) ⟨by unfold hrX; rw [if_neg (not_not_intro c_4), if_neg c_14], rfl, rfl⟩
set_option maxHeartbeats 4000000 in
theorem ax_ringOf {l : Launch} {G : GW} {h : AH} {n : Nat} {s : Nat → Int32} (x1 : h 1 = some (XO s)) {FS FF FT ce : Nat → Int32} (x2 : h 2 = some TO0) (x3 : h 3 = some (IA 8 FS)) (x4 : h 4 = some (IA 7 FF)) (x5 : h 5 = some (IA 7 FT)) (x16 : h 16 = some (IA 7 ce)) {a b0 b1 v : Nat} (hv : v < 6) (hF : FS 0 = nI a) (ha : a < 100) (e0 : ce v = nI b0) (hb0 : b0 < 100) (e1 : ce (v + 1) = nI b1) (hb1 : b1 < 100) : AM l G yX0_ringOf cX0_ringOf 6 (some .int) 1 0 0 [.ref 1, .int (nI (v + 1))] h n (Qi (rgX (s 15) (s 14) (nI (v + 1)) (nI (awayF a b1)) (nI (awayF a b0)) (FT (v + 1)) (FF (v + 1))) h n) := by
  refine AM.of (L := [some (.ref 1), some (.int (nI (v + 1))), none, none, none, none]) (by decide) (Nat.le_of_ble_eq_true rfl) rfl ?_
  refine ew_aload_n (t := 1) dX0_ringOf_0 rfl rfl rfl ?_
  refine ew_iload_n (t := 2) dX0_ringOf_1 rfl rfl rfl ?_
  refine ew_callV (t := 5) (As := [_]) (ax_hasRing x1 _) (fcX0).1 x1 (lw_V q439 q441 qs13 q51 q442) rfl naX0_hasRing dX0_ringOf_2 rfl (Nat.le_of_ble_eq_true rfl) (Nat.le_of_ble_eq_true rfl) (Nat.le_refl _) (Nat.le_refl _) (Nat.le_of_ble_eq_true rfl) rfl (qi ?_)
  refine ew_if_ne (t := 10) (t2 := 8) dX0_ringOf_5 rfl rfl (fun c_5 => ?_) (fun c_5 => ?_)
  · refine ew_aload_n (t := 11) dX0_ringOf_10 rfl rfl rfl ?_
    refine ew_get (t := 14) (j := 0) (v := .ref 2) fcX0 x1 (Nat.le_of_ble_eq_true rfl) q255 rfl dX0_ringOf_11 rfl ?_
    refine ew_aload_n (t := 15) dX0_ringOf_14 rfl rfl rfl ?_
    refine ew_get (t := 18) (j := 8) (v := .ref 16) fcX0 x1 (Nat.le_of_ble_eq_true rfl) q267 rfl dX0_ringOf_15 rfl ?_
    refine ew_iload_n (t := 19) dX0_ringOf_18 rfl rfl rfl ?_
    refine ew_iald (t := 20) (j := (v + 1)) (N := 7) x16 (vp_in_nI (by omega) (by omega)) (nI_clamp (by omega)) dX0_ringOf_19 rfl ?_
    rw [e1]
    refine ew_callV (t := 23) (As := [_]) (ax_tfar (b := b1) x2 x3 hF ha hb1) (fcX1).1 x2 (lw_V q340 q341 q342 q52 q343) rfl naX1_far dX0_ringOf_20 rfl (Nat.le_of_ble_eq_true rfl) (Nat.le_of_ble_eq_true rfl) (Nat.le_refl _) (Nat.le_refl _) (Nat.le_of_ble_eq_true rfl) rfl (qi ?_)
    refine ew_istore_n (t := 24) (L' := [some (.ref 1), some (.int (nI (v + 1))), some (.int (nI (awayF a b1))), none, none, none]) dX0_ringOf_23 rfl (Nat.le_of_ble_eq_true rfl) rfl rfl ?_
    refine ew_aload_n (t := 25) dX0_ringOf_24 rfl rfl rfl ?_
    refine ew_get (t := 28) (j := 0) (v := .ref 2) fcX0 x1 (Nat.le_of_ble_eq_true rfl) q255 rfl dX0_ringOf_25 rfl ?_
    refine ew_aload_n (t := 29) dX0_ringOf_28 rfl rfl rfl ?_
    refine ew_get (t := 32) (j := 8) (v := .ref 16) fcX0 x1 (Nat.le_of_ble_eq_true rfl) q267 rfl dX0_ringOf_29 rfl ?_
    refine ew_iload_n (t := 33) dX0_ringOf_32 rfl rfl rfl ?_
    refine ew_ic1 (t := 34) dX0_ringOf_33 rfl ?_
    refine ew_isub (t := 35) dX0_ringOf_34 rfl ?_
    rw [nI_pred v]
    refine ew_iald (t := 36) (j := v) (N := 7) x16 (vp_in_nI (by omega) (by omega)) (nI_clamp (by omega)) dX0_ringOf_35 rfl ?_
    rw [e0]
    refine ew_callV (t := 39) (As := [_]) (ax_tfar (b := b0) x2 x3 hF ha hb0) (fcX1).1 x2 (lw_V q340 q341 q342 q52 q343) rfl naX1_far dX0_ringOf_36 rfl (Nat.le_of_ble_eq_true rfl) (Nat.le_of_ble_eq_true rfl) (Nat.le_refl _) (Nat.le_refl _) (Nat.le_of_ble_eq_true rfl) rfl (qi ?_)
    refine ew_istore_n (t := 40) (L' := [some (.ref 1), some (.int (nI (v + 1))), some (.int (nI (awayF a b1))), some (.int (nI (awayF a b0))), none, none]) dX0_ringOf_39 rfl (Nat.le_of_ble_eq_true rfl) rfl rfl ?_
    refine ew_aload_n (t := 41) dX0_ringOf_40 rfl rfl rfl ?_
    refine ew_get (t := 44) (j := 14) (v := .int (s 14)) fcX0 x1 (Nat.le_of_ble_eq_true rfl) q276 rfl dX0_ringOf_41 rfl ?_
    refine ew_bipush (t := 46) (v := 6) dX0_ringOf_44 (by decide) rfl ?_
    have J62 : ∀ (j62_0 : Int32), j62_0 = ((if ¬ (s 14) = 6 then (FT (v + 1)) else 0) : Int32) → EW l G yX0_ringOf cX0_ringOf 6 (some .int) 1 0 0 (Qi (rgX (s 15) (s 14) (nI (v + 1)) (nI (awayF a b1)) (nI (awayF a b0)) (FT (v + 1)) (FF (v + 1))) h n) 0 0 h n 62 [some (.ref 1), some (.int (nI (v + 1))), some (.int (nI (awayF a b1))), some (.int (nI (awayF a b0))), none, none] [.int j62_0] := by
      intro j62_0 hj62_0
      rw [show j62_0 = (tnX (s 14) (FT (v + 1))) from hj62_0]
      refine ew_istore (t := 64) (L' := [some (.ref 1), some (.int (nI (v + 1))), some (.int (nI (awayF a b1))), some (.int (nI (awayF a b0))), some (.int (tnX (s 14) (FT (v + 1)))), none]) dX0_ringOf_62 (Nat.le_of_ble_eq_true rfl) rfl rfl ?_
      refine ew_iload (t := 66) dX0_ringOf_64 rfl rfl ?_
      refine ew_ic1 (t := 67) dX0_ringOf_66 rfl ?_
      refine ew_icmp_ne (t := 75) (t2 := 70) dX0_ringOf_67 rfl rfl (fun c_67 => ?_) (fun c_67 => ?_)
      · refine ew_iload (t := 77) dX0_ringOf_75 rfl rfl ?_
        refine ew_ic2 (t := 78) dX0_ringOf_77 rfl ?_
        refine ew_icmp_ne (t := 88) (t2 := 81) dX0_ringOf_78 rfl rfl (fun c_78 => ?_) (fun c_78 => ?_)
        · refine ew_aload_n (t := 89) dX0_ringOf_88 rfl rfl rfl ?_
          refine ew_get (t := 92) (j := 0) (v := .ref 2) fcX0 x1 (Nat.le_of_ble_eq_true rfl) q255 rfl dX0_ringOf_89 rfl ?_
          refine ew_getN (t := 95) (j := 1) (v := .ref 4) fcX1 x2 (Nat.le_of_ble_eq_true rfl) q129 rfl dX0_ringOf_92 rfl ?_
          refine ew_iload_n (t := 96) dX0_ringOf_95 rfl rfl rfl ?_
          refine ew_iald (t := 97) (j := (v + 1)) (N := 7) x4 (vp_in_nI (by omega) (by omega)) (nI_clamp (by omega)) dX0_ringOf_96 rfl ?_
          have J118 : ∀ (j118_0 : Int32), j118_0 = ((if 0 ≤ (FF (v + 1)) then (if 0 ≤ ((FF (v + 1)) - (nI (awayF a b1))) then ((FF (v + 1)) - (nI (awayF a b1))) else 0 - ((FF (v + 1)) - (nI (awayF a b1)))) else 0) : Int32) → EW l G yX0_ringOf cX0_ringOf 6 (some .int) 1 0 0 (Qi (rgX (s 15) (s 14) (nI (v + 1)) (nI (awayF a b1)) (nI (awayF a b0)) (FT (v + 1)) (FF (v + 1))) h n) 0 0 h n 118 [some (.ref 1), some (.int (nI (v + 1))), some (.int (nI (awayF a b1))), some (.int (nI (awayF a b0))), some (.int (tnX (s 14) (FT (v + 1)))), none] [.int j118_0] := by
            intro j118_0 hj118_0
            rw [show j118_0 = (offX (FF (v + 1)) (nI (awayF a b1))) from hj118_0]
            refine ew_istore (t := 120) (L' := [some (.ref 1), some (.int (nI (v + 1))), some (.int (nI (awayF a b1))), some (.int (nI (awayF a b0))), some (.int (tnX (s 14) (FT (v + 1)))), some (.int (offX (FF (v + 1)) (nI (awayF a b1))))]) dX0_ringOf_118 (Nat.le_of_ble_eq_true rfl) rfl rfl ?_
            refine ew_aload_n (t := 121) dX0_ringOf_120 rfl rfl rfl ?_
            refine ew_get (t := 124) (j := 0) (v := .ref 2) fcX0 x1 (Nat.le_of_ble_eq_true rfl) q255 rfl dX0_ringOf_121 rfl ?_
            refine ew_getN (t := 127) (j := 1) (v := .ref 4) fcX1 x2 (Nat.le_of_ble_eq_true rfl) q129 rfl dX0_ringOf_124 rfl ?_
            refine ew_iload_n (t := 128) dX0_ringOf_127 rfl rfl rfl ?_
            refine ew_iald (t := 129) (j := (v + 1)) (N := 7) x4 (vp_in_nI (by omega) (by omega)) (nI_clamp (by omega)) dX0_ringOf_128 rfl ?_
            refine ew_if_ge (t := 136) (t2 := 132) dX0_ringOf_129 rfl rfl (fun c_129 => ?_) (fun c_129 => ?_)
            · refine ew_iload (t := 138) dX0_ringOf_136 rfl rfl ?_
              refine ew_if_ne (t := 145) (t2 := 141) dX0_ringOf_138 rfl rfl (fun c_138 => ?_) (fun c_138 => ?_)
              · refine ew_iload (t := 147) dX0_ringOf_145 rfl rfl ?_
                refine ew_ic1 (t := 148) dX0_ringOf_147 rfl ?_
                refine ew_icmp_ne (t := 155) (t2 := 151) dX0_ringOf_148 rfl rfl (fun c_148 => ?_) (fun c_148 => ?_)
                · refine ew_ic0 (t := 156) dX0_ringOf_155 rfl ?_
                  exact ew_iret rfl dX0_ringOf_156 (Nat.le_refl _) (Nat.le_refl _) ⟨by unfold rgX; rw [if_pos c_5]; unfold rgY rgW rgV; rw [if_pos c_67, if_pos c_78, if_pos c_129, if_pos c_138, if_pos c_148], rfl, rfl⟩
                · refine ew_ic1 (t := 152) dX0_ringOf_151 rfl ?_
                  refine ew_goto (t := 156) dX0_ringOf_152 rfl ?_
                  exact ew_iret rfl dX0_ringOf_156 (Nat.le_refl _) (Nat.le_refl _) ⟨by unfold rgX; rw [if_pos c_5]; unfold rgY rgW rgV; rw [if_pos c_67, if_pos c_78, if_pos c_129, if_pos c_138, if_neg (not_not_intro c_148)], rfl, rfl⟩
              · refine ew_ic2 (t := 142) dX0_ringOf_141 rfl ?_
                refine ew_goto (t := 156) dX0_ringOf_142 rfl ?_
                exact ew_iret rfl dX0_ringOf_156 (Nat.le_refl _) (Nat.le_refl _) ⟨by unfold rgX; rw [if_pos c_5]; unfold rgY rgW rgV; rw [if_pos c_67, if_pos c_78, if_pos c_129, if_neg (not_not_intro c_138)], rfl, rfl⟩
            · refine ew_ic1 (t := 133) dX0_ringOf_132 rfl ?_
              refine ew_goto (t := 156) dX0_ringOf_133 rfl ?_
              exact ew_iret rfl dX0_ringOf_156 (Nat.le_refl _) (Nat.le_refl _) ⟨by unfold rgX; rw [if_pos c_5]; unfold rgY rgW rgV; rw [if_pos c_67, if_pos c_78, if_neg c_129], rfl, rfl⟩
          refine ew_if_ge (t := 104) (t2 := 100) dX0_ringOf_97 rfl rfl (fun c_97 => ?_) (fun c_97 => ?_)
          · refine ew_aload_n (t := 105) dX0_ringOf_104 rfl rfl rfl ?_
            refine ew_get (t := 108) (j := 0) (v := .ref 2) fcX0 x1 (Nat.le_of_ble_eq_true rfl) q255 rfl dX0_ringOf_105 rfl ?_
            refine ew_getN (t := 111) (j := 1) (v := .ref 4) fcX1 x2 (Nat.le_of_ble_eq_true rfl) q129 rfl dX0_ringOf_108 rfl ?_
            refine ew_iload_n (t := 112) dX0_ringOf_111 rfl rfl rfl ?_
            refine ew_iald (t := 113) (j := (v + 1)) (N := 7) x4 (vp_in_nI (by omega) (by omega)) (nI_clamp (by omega)) dX0_ringOf_112 rfl ?_
            refine ew_iload_n (t := 114) dX0_ringOf_113 rfl rfl rfl ?_
            refine ew_isub (t := 115) dX0_ringOf_114 rfl ?_
            refine ew_mabs (t := 118) q443 q444 q62 q445 dX0_ringOf_115 (Nat.le_of_ble_eq_true rfl) (Nat.le_refl _) (Nat.le_refl _) (Nat.le_of_ble_eq_true rfl) rfl ?_
            exact J118 (if 0 ≤ ((FF (v + 1)) - (nI (awayF a b1))) then ((FF (v + 1)) - (nI (awayF a b1))) else 0 - ((FF (v + 1)) - (nI (awayF a b1)))) (by simp only [if_pos c_97])
          · refine ew_ic0 (t := 101) dX0_ringOf_100 rfl ?_
            refine ew_goto (t := 118) dX0_ringOf_101 rfl ?_
            exact J118 0 (by simp only [if_neg c_97])
        · refine ew_iload_n (t := 82) dX0_ringOf_81 rfl rfl rfl ?_
          refine ew_iload_n (t := 83) dX0_ringOf_82 rfl rfl rfl ?_
          refine ew_icmp_gt (t := 88) (t2 := 86) dX0_ringOf_83 rfl rfl (fun c_83 => ?_) (fun c_83 => ?_)
          · refine ew_aload_n (t := 89) dX0_ringOf_88 rfl rfl rfl ?_
            refine ew_get (t := 92) (j := 0) (v := .ref 2) fcX0 x1 (Nat.le_of_ble_eq_true rfl) q255 rfl dX0_ringOf_89 rfl ?_
            refine ew_getN (t := 95) (j := 1) (v := .ref 4) fcX1 x2 (Nat.le_of_ble_eq_true rfl) q129 rfl dX0_ringOf_92 rfl ?_
            refine ew_iload_n (t := 96) dX0_ringOf_95 rfl rfl rfl ?_
            refine ew_iald (t := 97) (j := (v + 1)) (N := 7) x4 (vp_in_nI (by omega) (by omega)) (nI_clamp (by omega)) dX0_ringOf_96 rfl ?_
            have J118 : ∀ (j118_0 : Int32), j118_0 = ((if 0 ≤ (FF (v + 1)) then (if 0 ≤ ((FF (v + 1)) - (nI (awayF a b1))) then ((FF (v + 1)) - (nI (awayF a b1))) else 0 - ((FF (v + 1)) - (nI (awayF a b1)))) else 0) : Int32) → EW l G yX0_ringOf cX0_ringOf 6 (some .int) 1 0 0 (Qi (rgX (s 15) (s 14) (nI (v + 1)) (nI (awayF a b1)) (nI (awayF a b0)) (FT (v + 1)) (FF (v + 1))) h n) 0 0 h n 118 [some (.ref 1), some (.int (nI (v + 1))), some (.int (nI (awayF a b1))), some (.int (nI (awayF a b0))), some (.int (tnX (s 14) (FT (v + 1)))), none] [.int j118_0] := by
              intro j118_0 hj118_0
              rw [show j118_0 = (offX (FF (v + 1)) (nI (awayF a b1))) from hj118_0]
              refine ew_istore (t := 120) (L' := [some (.ref 1), some (.int (nI (v + 1))), some (.int (nI (awayF a b1))), some (.int (nI (awayF a b0))), some (.int (tnX (s 14) (FT (v + 1)))), some (.int (offX (FF (v + 1)) (nI (awayF a b1))))]) dX0_ringOf_118 (Nat.le_of_ble_eq_true rfl) rfl rfl ?_
              refine ew_aload_n (t := 121) dX0_ringOf_120 rfl rfl rfl ?_
              refine ew_get (t := 124) (j := 0) (v := .ref 2) fcX0 x1 (Nat.le_of_ble_eq_true rfl) q255 rfl dX0_ringOf_121 rfl ?_
              refine ew_getN (t := 127) (j := 1) (v := .ref 4) fcX1 x2 (Nat.le_of_ble_eq_true rfl) q129 rfl dX0_ringOf_124 rfl ?_
              refine ew_iload_n (t := 128) dX0_ringOf_127 rfl rfl rfl ?_
              refine ew_iald (t := 129) (j := (v + 1)) (N := 7) x4 (vp_in_nI (by omega) (by omega)) (nI_clamp (by omega)) dX0_ringOf_128 rfl ?_
              refine ew_if_ge (t := 136) (t2 := 132) dX0_ringOf_129 rfl rfl (fun c_129 => ?_) (fun c_129 => ?_)
              · refine ew_iload (t := 138) dX0_ringOf_136 rfl rfl ?_
                refine ew_if_ne (t := 145) (t2 := 141) dX0_ringOf_138 rfl rfl (fun c_138 => ?_) (fun c_138 => ?_)
                · refine ew_iload (t := 147) dX0_ringOf_145 rfl rfl ?_
                  refine ew_ic1 (t := 148) dX0_ringOf_147 rfl ?_
                  refine ew_icmp_ne (t := 155) (t2 := 151) dX0_ringOf_148 rfl rfl (fun c_148 => ?_) (fun c_148 => ?_)
                  · refine ew_ic0 (t := 156) dX0_ringOf_155 rfl ?_
                    exact ew_iret rfl dX0_ringOf_156 (Nat.le_refl _) (Nat.le_refl _) ⟨by unfold rgX; rw [if_pos c_5]; unfold rgY rgW rgV; rw [if_pos c_67, if_neg (not_not_intro c_78), if_pos c_83, if_pos c_129, if_pos c_138, if_pos c_148], rfl, rfl⟩
                  · refine ew_ic1 (t := 152) dX0_ringOf_151 rfl ?_
                    refine ew_goto (t := 156) dX0_ringOf_152 rfl ?_
                    exact ew_iret rfl dX0_ringOf_156 (Nat.le_refl _) (Nat.le_refl _) ⟨by unfold rgX; rw [if_pos c_5]; unfold rgY rgW rgV; rw [if_pos c_67, if_neg (not_not_intro c_78), if_pos c_83, if_pos c_129, if_pos c_138, if_neg (not_not_intro c_148)], rfl, rfl⟩
                · refine ew_ic2 (t := 142) dX0_ringOf_141 rfl ?_
                  refine ew_goto (t := 156) dX0_ringOf_142 rfl ?_
                  exact ew_iret rfl dX0_ringOf_156 (Nat.le_refl _) (Nat.le_refl _) ⟨by unfold rgX; rw [if_pos c_5]; unfold rgY rgW rgV; rw [if_pos c_67, if_neg (not_not_intro c_78), if_pos c_83, if_pos c_129, if_neg (not_not_intro c_138)], rfl, rfl⟩
              · refine ew_ic1 (t := 133) dX0_ringOf_132 rfl ?_
                refine ew_goto (t := 156) dX0_ringOf_133 rfl ?_
                exact ew_iret rfl dX0_ringOf_156 (Nat.le_refl _) (Nat.le_refl _) ⟨by unfold rgX; rw [if_pos c_5]; unfold rgY rgW rgV; rw [if_pos c_67, if_neg (not_not_intro c_78), if_pos c_83, if_neg c_129], rfl, rfl⟩
            refine ew_if_ge (t := 104) (t2 := 100) dX0_ringOf_97 rfl rfl (fun c_97 => ?_) (fun c_97 => ?_)
            · refine ew_aload_n (t := 105) dX0_ringOf_104 rfl rfl rfl ?_
              refine ew_get (t := 108) (j := 0) (v := .ref 2) fcX0 x1 (Nat.le_of_ble_eq_true rfl) q255 rfl dX0_ringOf_105 rfl ?_
              refine ew_getN (t := 111) (j := 1) (v := .ref 4) fcX1 x2 (Nat.le_of_ble_eq_true rfl) q129 rfl dX0_ringOf_108 rfl ?_
              refine ew_iload_n (t := 112) dX0_ringOf_111 rfl rfl rfl ?_
              refine ew_iald (t := 113) (j := (v + 1)) (N := 7) x4 (vp_in_nI (by omega) (by omega)) (nI_clamp (by omega)) dX0_ringOf_112 rfl ?_
              refine ew_iload_n (t := 114) dX0_ringOf_113 rfl rfl rfl ?_
              refine ew_isub (t := 115) dX0_ringOf_114 rfl ?_
              refine ew_mabs (t := 118) q443 q444 q62 q445 dX0_ringOf_115 (Nat.le_of_ble_eq_true rfl) (Nat.le_refl _) (Nat.le_refl _) (Nat.le_of_ble_eq_true rfl) rfl ?_
              exact J118 (if 0 ≤ ((FF (v + 1)) - (nI (awayF a b1))) then ((FF (v + 1)) - (nI (awayF a b1))) else 0 - ((FF (v + 1)) - (nI (awayF a b1)))) (by simp only [if_pos c_97])
            · refine ew_ic0 (t := 101) dX0_ringOf_100 rfl ?_
              refine ew_goto (t := 118) dX0_ringOf_101 rfl ?_
              exact J118 0 (by simp only [if_neg c_97])
          · refine ew_ic0 (t := 87) dX0_ringOf_86 rfl ?_
            exact ew_iret rfl dX0_ringOf_87 (Nat.le_refl _) (Nat.le_refl _) ⟨by unfold rgX; rw [if_pos c_5]; unfold rgY rgW rgV; rw [if_pos c_67, if_neg (not_not_intro c_78), if_neg c_83], rfl, rfl⟩
      · refine ew_iload_n (t := 71) dX0_ringOf_70 rfl rfl rfl ?_
        refine ew_iload_n (t := 72) dX0_ringOf_71 rfl rfl rfl ?_
        refine ew_icmp_ge (t := 86) (t2 := 75) dX0_ringOf_72 rfl rfl (fun c_72 => ?_) (fun c_72 => ?_)
        · refine ew_ic0 (t := 87) dX0_ringOf_86 rfl ?_
          exact ew_iret rfl dX0_ringOf_87 (Nat.le_refl _) (Nat.le_refl _) ⟨by unfold rgX; rw [if_pos c_5]; unfold rgY rgW rgV; rw [if_neg (not_not_intro c_67), if_pos c_72], rfl, rfl⟩
        · refine ew_iload (t := 77) dX0_ringOf_75 rfl rfl ?_
          refine ew_ic2 (t := 78) dX0_ringOf_77 rfl ?_
          refine ew_icmp_ne (t := 88) (t2 := 81) dX0_ringOf_78 rfl rfl (fun c_78 => ?_) (fun c_78 => ?_)
          · refine ew_aload_n (t := 89) dX0_ringOf_88 rfl rfl rfl ?_
            refine ew_get (t := 92) (j := 0) (v := .ref 2) fcX0 x1 (Nat.le_of_ble_eq_true rfl) q255 rfl dX0_ringOf_89 rfl ?_
            refine ew_getN (t := 95) (j := 1) (v := .ref 4) fcX1 x2 (Nat.le_of_ble_eq_true rfl) q129 rfl dX0_ringOf_92 rfl ?_
            refine ew_iload_n (t := 96) dX0_ringOf_95 rfl rfl rfl ?_
            refine ew_iald (t := 97) (j := (v + 1)) (N := 7) x4 (vp_in_nI (by omega) (by omega)) (nI_clamp (by omega)) dX0_ringOf_96 rfl ?_
            have J118 : ∀ (j118_0 : Int32), j118_0 = ((if 0 ≤ (FF (v + 1)) then (if 0 ≤ ((FF (v + 1)) - (nI (awayF a b1))) then ((FF (v + 1)) - (nI (awayF a b1))) else 0 - ((FF (v + 1)) - (nI (awayF a b1)))) else 0) : Int32) → EW l G yX0_ringOf cX0_ringOf 6 (some .int) 1 0 0 (Qi (rgX (s 15) (s 14) (nI (v + 1)) (nI (awayF a b1)) (nI (awayF a b0)) (FT (v + 1)) (FF (v + 1))) h n) 0 0 h n 118 [some (.ref 1), some (.int (nI (v + 1))), some (.int (nI (awayF a b1))), some (.int (nI (awayF a b0))), some (.int (tnX (s 14) (FT (v + 1)))), none] [.int j118_0] := by
              intro j118_0 hj118_0
              rw [show j118_0 = (offX (FF (v + 1)) (nI (awayF a b1))) from hj118_0]
              refine ew_istore (t := 120) (L' := [some (.ref 1), some (.int (nI (v + 1))), some (.int (nI (awayF a b1))), some (.int (nI (awayF a b0))), some (.int (tnX (s 14) (FT (v + 1)))), some (.int (offX (FF (v + 1)) (nI (awayF a b1))))]) dX0_ringOf_118 (Nat.le_of_ble_eq_true rfl) rfl rfl ?_
              refine ew_aload_n (t := 121) dX0_ringOf_120 rfl rfl rfl ?_
              refine ew_get (t := 124) (j := 0) (v := .ref 2) fcX0 x1 (Nat.le_of_ble_eq_true rfl) q255 rfl dX0_ringOf_121 rfl ?_
              refine ew_getN (t := 127) (j := 1) (v := .ref 4) fcX1 x2 (Nat.le_of_ble_eq_true rfl) q129 rfl dX0_ringOf_124 rfl ?_
              refine ew_iload_n (t := 128) dX0_ringOf_127 rfl rfl rfl ?_
              refine ew_iald (t := 129) (j := (v + 1)) (N := 7) x4 (vp_in_nI (by omega) (by omega)) (nI_clamp (by omega)) dX0_ringOf_128 rfl ?_
              refine ew_if_ge (t := 136) (t2 := 132) dX0_ringOf_129 rfl rfl (fun c_129 => ?_) (fun c_129 => ?_)
              · refine ew_iload (t := 138) dX0_ringOf_136 rfl rfl ?_
                refine ew_if_ne (t := 145) (t2 := 141) dX0_ringOf_138 rfl rfl (fun c_138 => ?_) (fun c_138 => ?_)
                · refine ew_iload (t := 147) dX0_ringOf_145 rfl rfl ?_
                  refine ew_ic1 (t := 148) dX0_ringOf_147 rfl ?_
                  refine ew_icmp_ne (t := 155) (t2 := 151) dX0_ringOf_148 rfl rfl (fun c_148 => ?_) (fun c_148 => ?_)
                  · refine ew_ic0 (t := 156) dX0_ringOf_155 rfl ?_
                    exact ew_iret rfl dX0_ringOf_156 (Nat.le_refl _) (Nat.le_refl _) ⟨by unfold rgX; rw [if_pos c_5]; unfold rgY rgW rgV; rw [if_neg (not_not_intro c_67), if_neg c_72, if_pos c_78, if_pos c_129, if_pos c_138, if_pos c_148], rfl, rfl⟩
                  · refine ew_ic1 (t := 152) dX0_ringOf_151 rfl ?_
                    refine ew_goto (t := 156) dX0_ringOf_152 rfl ?_
                    exact ew_iret rfl dX0_ringOf_156 (Nat.le_refl _) (Nat.le_refl _) ⟨by unfold rgX; rw [if_pos c_5]; unfold rgY rgW rgV; rw [if_neg (not_not_intro c_67), if_neg c_72, if_pos c_78, if_pos c_129, if_pos c_138, if_neg (not_not_intro c_148)], rfl, rfl⟩
                · refine ew_ic2 (t := 142) dX0_ringOf_141 rfl ?_
                  refine ew_goto (t := 156) dX0_ringOf_142 rfl ?_
                  exact ew_iret rfl dX0_ringOf_156 (Nat.le_refl _) (Nat.le_refl _) ⟨by unfold rgX; rw [if_pos c_5]; unfold rgY rgW rgV; rw [if_neg (not_not_intro c_67), if_neg c_72, if_pos c_78, if_pos c_129, if_neg (not_not_intro c_138)], rfl, rfl⟩
              · refine ew_ic1 (t := 133) dX0_ringOf_132 rfl ?_
                refine ew_goto (t := 156) dX0_ringOf_133 rfl ?_
                exact ew_iret rfl dX0_ringOf_156 (Nat.le_refl _) (Nat.le_refl _) ⟨by unfold rgX; rw [if_pos c_5]; unfold rgY rgW rgV; rw [if_neg (not_not_intro c_67), if_neg c_72, if_pos c_78, if_neg c_129], rfl, rfl⟩
            refine ew_if_ge (t := 104) (t2 := 100) dX0_ringOf_97 rfl rfl (fun c_97 => ?_) (fun c_97 => ?_)
            · refine ew_aload_n (t := 105) dX0_ringOf_104 rfl rfl rfl ?_
              refine ew_get (t := 108) (j := 0) (v := .ref 2) fcX0 x1 (Nat.le_of_ble_eq_true rfl) q255 rfl dX0_ringOf_105 rfl ?_
              refine ew_getN (t := 111) (j := 1) (v := .ref 4) fcX1 x2 (Nat.le_of_ble_eq_true rfl) q129 rfl dX0_ringOf_108 rfl ?_
              refine ew_iload_n (t := 112) dX0_ringOf_111 rfl rfl rfl ?_
              refine ew_iald (t := 113) (j := (v + 1)) (N := 7) x4 (vp_in_nI (by omega) (by omega)) (nI_clamp (by omega)) dX0_ringOf_112 rfl ?_
              refine ew_iload_n (t := 114) dX0_ringOf_113 rfl rfl rfl ?_
              refine ew_isub (t := 115) dX0_ringOf_114 rfl ?_
              refine ew_mabs (t := 118) q443 q444 q62 q445 dX0_ringOf_115 (Nat.le_of_ble_eq_true rfl) (Nat.le_refl _) (Nat.le_refl _) (Nat.le_of_ble_eq_true rfl) rfl ?_
              exact J118 (if 0 ≤ ((FF (v + 1)) - (nI (awayF a b1))) then ((FF (v + 1)) - (nI (awayF a b1))) else 0 - ((FF (v + 1)) - (nI (awayF a b1)))) (by simp only [if_pos c_97])
            · refine ew_ic0 (t := 101) dX0_ringOf_100 rfl ?_
              refine ew_goto (t := 118) dX0_ringOf_101 rfl ?_
              exact J118 0 (by simp only [if_neg c_97])
          · refine ew_iload_n (t := 82) dX0_ringOf_81 rfl rfl rfl ?_
            refine ew_iload_n (t := 83) dX0_ringOf_82 rfl rfl rfl ?_
            refine ew_icmp_gt (t := 88) (t2 := 86) dX0_ringOf_83 rfl rfl (fun c_83 => ?_) (fun c_83 => ?_)
            · refine ew_aload_n (t := 89) dX0_ringOf_88 rfl rfl rfl ?_
              refine ew_get (t := 92) (j := 0) (v := .ref 2) fcX0 x1 (Nat.le_of_ble_eq_true rfl) q255 rfl dX0_ringOf_89 rfl ?_
              refine ew_getN (t := 95) (j := 1) (v := .ref 4) fcX1 x2 (Nat.le_of_ble_eq_true rfl) q129 rfl dX0_ringOf_92 rfl ?_
              refine ew_iload_n (t := 96) dX0_ringOf_95 rfl rfl rfl ?_
              refine ew_iald (t := 97) (j := (v + 1)) (N := 7) x4 (vp_in_nI (by omega) (by omega)) (nI_clamp (by omega)) dX0_ringOf_96 rfl ?_
              have J118 : ∀ (j118_0 : Int32), j118_0 = ((if 0 ≤ (FF (v + 1)) then (if 0 ≤ ((FF (v + 1)) - (nI (awayF a b1))) then ((FF (v + 1)) - (nI (awayF a b1))) else 0 - ((FF (v + 1)) - (nI (awayF a b1)))) else 0) : Int32) → EW l G yX0_ringOf cX0_ringOf 6 (some .int) 1 0 0 (Qi (rgX (s 15) (s 14) (nI (v + 1)) (nI (awayF a b1)) (nI (awayF a b0)) (FT (v + 1)) (FF (v + 1))) h n) 0 0 h n 118 [some (.ref 1), some (.int (nI (v + 1))), some (.int (nI (awayF a b1))), some (.int (nI (awayF a b0))), some (.int (tnX (s 14) (FT (v + 1)))), none] [.int j118_0] := by
                intro j118_0 hj118_0
                rw [show j118_0 = (offX (FF (v + 1)) (nI (awayF a b1))) from hj118_0]
                refine ew_istore (t := 120) (L' := [some (.ref 1), some (.int (nI (v + 1))), some (.int (nI (awayF a b1))), some (.int (nI (awayF a b0))), some (.int (tnX (s 14) (FT (v + 1)))), some (.int (offX (FF (v + 1)) (nI (awayF a b1))))]) dX0_ringOf_118 (Nat.le_of_ble_eq_true rfl) rfl rfl ?_
                refine ew_aload_n (t := 121) dX0_ringOf_120 rfl rfl rfl ?_
                refine ew_get (t := 124) (j := 0) (v := .ref 2) fcX0 x1 (Nat.le_of_ble_eq_true rfl) q255 rfl dX0_ringOf_121 rfl ?_
                refine ew_getN (t := 127) (j := 1) (v := .ref 4) fcX1 x2 (Nat.le_of_ble_eq_true rfl) q129 rfl dX0_ringOf_124 rfl ?_
                refine ew_iload_n (t := 128) dX0_ringOf_127 rfl rfl rfl ?_
                refine ew_iald (t := 129) (j := (v + 1)) (N := 7) x4 (vp_in_nI (by omega) (by omega)) (nI_clamp (by omega)) dX0_ringOf_128 rfl ?_
                refine ew_if_ge (t := 136) (t2 := 132) dX0_ringOf_129 rfl rfl (fun c_129 => ?_) (fun c_129 => ?_)
                · refine ew_iload (t := 138) dX0_ringOf_136 rfl rfl ?_
                  refine ew_if_ne (t := 145) (t2 := 141) dX0_ringOf_138 rfl rfl (fun c_138 => ?_) (fun c_138 => ?_)
                  · refine ew_iload (t := 147) dX0_ringOf_145 rfl rfl ?_
                    refine ew_ic1 (t := 148) dX0_ringOf_147 rfl ?_
                    refine ew_icmp_ne (t := 155) (t2 := 151) dX0_ringOf_148 rfl rfl (fun c_148 => ?_) (fun c_148 => ?_)
                    · refine ew_ic0 (t := 156) dX0_ringOf_155 rfl ?_
                      exact ew_iret rfl dX0_ringOf_156 (Nat.le_refl _) (Nat.le_refl _) ⟨by unfold rgX; rw [if_pos c_5]; unfold rgY rgW rgV; rw [if_neg (not_not_intro c_67), if_neg c_72, if_neg (not_not_intro c_78), if_pos c_83, if_pos c_129, if_pos c_138, if_pos c_148], rfl, rfl⟩
                    · refine ew_ic1 (t := 152) dX0_ringOf_151 rfl ?_
                      refine ew_goto (t := 156) dX0_ringOf_152 rfl ?_
                      exact ew_iret rfl dX0_ringOf_156 (Nat.le_refl _) (Nat.le_refl _) ⟨by unfold rgX; rw [if_pos c_5]; unfold rgY rgW rgV; rw [if_neg (not_not_intro c_67), if_neg c_72, if_neg (not_not_intro c_78), if_pos c_83, if_pos c_129, if_pos c_138, if_neg (not_not_intro c_148)], rfl, rfl⟩
                  · refine ew_ic2 (t := 142) dX0_ringOf_141 rfl ?_
                    refine ew_goto (t := 156) dX0_ringOf_142 rfl ?_
                    exact ew_iret rfl dX0_ringOf_156 (Nat.le_refl _) (Nat.le_refl _) ⟨by unfold rgX; rw [if_pos c_5]; unfold rgY rgW rgV; rw [if_neg (not_not_intro c_67), if_neg c_72, if_neg (not_not_intro c_78), if_pos c_83, if_pos c_129, if_neg (not_not_intro c_138)], rfl, rfl⟩
                · refine ew_ic1 (t := 133) dX0_ringOf_132 rfl ?_
                  refine ew_goto (t := 156) dX0_ringOf_133 rfl ?_
                  exact ew_iret rfl dX0_ringOf_156 (Nat.le_refl _) (Nat.le_refl _) ⟨by unfold rgX; rw [if_pos c_5]; unfold rgY rgW rgV; rw [if_neg (not_not_intro c_67), if_neg c_72, if_neg (not_not_intro c_78), if_pos c_83, if_neg c_129], rfl, rfl⟩
              refine ew_if_ge (t := 104) (t2 := 100) dX0_ringOf_97 rfl rfl (fun c_97 => ?_) (fun c_97 => ?_)
              · refine ew_aload_n (t := 105) dX0_ringOf_104 rfl rfl rfl ?_
                refine ew_get (t := 108) (j := 0) (v := .ref 2) fcX0 x1 (Nat.le_of_ble_eq_true rfl) q255 rfl dX0_ringOf_105 rfl ?_
                refine ew_getN (t := 111) (j := 1) (v := .ref 4) fcX1 x2 (Nat.le_of_ble_eq_true rfl) q129 rfl dX0_ringOf_108 rfl ?_
                refine ew_iload_n (t := 112) dX0_ringOf_111 rfl rfl rfl ?_
                refine ew_iald (t := 113) (j := (v + 1)) (N := 7) x4 (vp_in_nI (by omega) (by omega)) (nI_clamp (by omega)) dX0_ringOf_112 rfl ?_
                refine ew_iload_n (t := 114) dX0_ringOf_113 rfl rfl rfl ?_
                refine ew_isub (t := 115) dX0_ringOf_114 rfl ?_
                refine ew_mabs (t := 118) q443 q444 q62 q445 dX0_ringOf_115 (Nat.le_of_ble_eq_true rfl) (Nat.le_refl _) (Nat.le_refl _) (Nat.le_of_ble_eq_true rfl) rfl ?_
                exact J118 (if 0 ≤ ((FF (v + 1)) - (nI (awayF a b1))) then ((FF (v + 1)) - (nI (awayF a b1))) else 0 - ((FF (v + 1)) - (nI (awayF a b1)))) (by simp only [if_pos c_97])
              · refine ew_ic0 (t := 101) dX0_ringOf_100 rfl ?_
                refine ew_goto (t := 118) dX0_ringOf_101 rfl ?_
                exact J118 0 (by simp only [if_neg c_97])
            · refine ew_ic0 (t := 87) dX0_ringOf_86 rfl ?_
              exact ew_iret rfl dX0_ringOf_87 (Nat.le_refl _) (Nat.le_refl _) ⟨by unfold rgX; rw [if_pos c_5]; unfold rgY rgW rgV; rw [if_neg (not_not_intro c_67), if_neg c_72, if_neg (not_not_intro c_78), if_neg c_83], rfl, rfl⟩
    refine ew_icmp_ne (t := 53) (t2 := 49) dX0_ringOf_46 rfl rfl (fun c_46 => ?_) (fun c_46 => ?_)
    · refine ew_aload_n (t := 54) dX0_ringOf_53 rfl rfl rfl ?_
      refine ew_get (t := 57) (j := 0) (v := .ref 2) fcX0 x1 (Nat.le_of_ble_eq_true rfl) q255 rfl dX0_ringOf_54 rfl ?_
      refine ew_getN (t := 60) (j := 2) (v := .ref 5) fcX1 x2 (Nat.le_of_ble_eq_true rfl) q131 rfl dX0_ringOf_57 rfl ?_
      refine ew_iload_n (t := 61) dX0_ringOf_60 rfl rfl rfl ?_
      refine ew_iald (t := 62) (j := (v + 1)) (N := 7) x5 (vp_in_nI (by omega) (by omega)) (nI_clamp (by omega)) dX0_ringOf_61 rfl ?_
      exact J62 (FT (v + 1)) (by simp only [if_pos c_46])
    · refine ew_ic0 (t := 50) dX0_ringOf_49 rfl ?_
      refine ew_goto (t := 62) dX0_ringOf_50 rfl ?_
      exact J62 0 (by simp only [if_neg (not_not_intro c_46)])
  · refine ew_ic1 (t := 9) dX0_ringOf_8 rfl ?_
    exact ew_iret rfl dX0_ringOf_9 (Nat.le_refl _) (Nat.le_refl _) ⟨by unfold rgX; rw [if_neg (not_not_intro c_5)], rfl, rfl⟩
/-- what is left out in the component's words and in the reference's -/
def FLG (wo any nr nt nf : Int32) : Prop := (∀ j, j < 6 → ((nr >>> (nI (j + 1) &&& 31)) &&& 1 = 1 ↔ (¬ any = 0 ∨ wo = nI (j + 1) - 1))) ∧ (nt = 0 ↔ ¬ wo = 6) ∧ (nf = 0 ↔ ¬ wo = 7)
/-- a far as the component keeps it -/
def frX (f : Nat → Int32) : Nat → Int32 := fun j => if f j < 0 then -4 else f j
def okR (f : Nat → Int32) : Prop := ∀ j, j < 7 → f j < 0 ∨ ∃ z, z ≤ 100 ∧ f j = nI z
theorem awayF_le {a b : Nat} : awayF a b ≤ 30 := by
  have : ∀ q f r, rtL q r f ≤ r + f := by
    intro q f
    induction f with
    | zero => intro r; exact Nat.le_refl _
    | succ f ih =>
      intro r
      show (if (r + 1) * (r + 1) ≤ q then _ else _) ≤ _
      split
      · have := ih (r + 1); omega
      · omega
  have := this (sqN a b) 30 0
  unfold awayF
  omega
theorem absN : ∀ z, z ≤ 100 → ∀ f, f ≤ 30 → offX (nI z) (nI f) = (if nI f < nI z then nI z - nI f else nI f - nI z) ∧ ¬ (if nI f < nI z then nI z - nI f else nI f - nI z) < 0 := by decide +kernel
theorem rgV_I {far : Nat} {rf : Int32} (hf : far ≤ 30) (hr : rf < 0 ∨ ∃ z, z ≤ 100 ∧ rf = nI z) : rgV (nI far) (if rf < 0 then -4 else rf) = (if rf < 0 then 1 else if (if nI far < rf then rf - nI far else nI far - rf) < 0 then 1 else if (if nI far < rf then rf - nI far else nI far - rf) = 0 then 2 else if (if nI far < rf then rf - nI far else nI far - rf) = 1 then 1 else 0) := by
  rcases hr with hr | ⟨z, hz, rfl⟩
  · rw [if_pos hr, if_pos hr]
    unfold rgV
    rw [if_neg (by decide)]
  · have h0 : ¬ nI z < 0 := Int32.not_lt.mpr (nI_nn (by omega))
    rw [if_neg h0, if_neg h0]
    unfold rgV
    rw [if_pos (nI_nn (by omega)), (absN z hz far hf).1, if_neg (absN z hz far hf).2]
    by_cases c1 : (if nI far < nI z then nI z - nI far else nI far - nI z) = 0
    · rw [if_neg (not_not_intro c1), if_pos c1]
    · rw [if_pos c1, if_neg c1]
      by_cases c2 : (if nI far < nI z then nI z - nI far else nI far - nI z) = 1
      · rw [if_neg (not_not_intro c2), if_pos c2]
      · rw [if_pos c2, if_neg c2]
theorem rgX_I {wo any nr nt nf : Int32} (fl : FLG wo any nr nt nf) {v far was : Nat} {tone rf : Int32} (hv : v < 6) (hf : far ≤ 30) (hr : rf < 0 ∨ ∃ z, z ≤ 100 ∧ rf = nI z) : rgX any wo (nI (v + 1)) (nI far) (nI was) tone (if rf < 0 then -4 else rf) = ringI nr (nI (v + 1)) nt (nI far) (nI was) tone rf := by
  unfold rgX ringI
  have h1 : (hrX any wo (nI (v + 1)) = 0) ↔ ((nr >>> (nI (v + 1) &&& 31)) &&& 1 = 1) := by
    rw [fl.1 v hv]
    unfold hrX
    by_cases c1 : any = 0
    · rw [if_neg (not_not_intro c1)]
      by_cases c2 : wo = nI (v + 1) - 1
      · rw [if_pos c2]; exact ⟨fun _ => Or.inr c2, fun _ => rfl⟩
      · rw [if_neg c2]; exact ⟨fun q => absurd q (by decide), fun q => absurd q (fun z => z.elim (fun x => x c1) c2)⟩
    · rw [if_pos c1]; exact ⟨fun _ => Or.inl c1, fun _ => rfl⟩
  have h2 : tnX wo tone = (if nt = 0 then tone else 0) := by
    unfold tnX
    by_cases c : wo = 6
    · rw [if_neg (not_not_intro c), if_neg (fun q => fl.2.1.mp q c)]
    · rw [if_pos c, if_pos (fl.2.1.mpr c)]
  by_cases c0 : (nr >>> (nI (v + 1) &&& 31)) &&& 1 = 1
  · rw [if_pos c0, if_neg (not_not_intro (h1.mpr c0))]
  · rw [if_neg c0, if_pos (fun q => c0 (h1.mp q)), ← h2]
    generalize tnX wo tone = tn
    unfold rgY rgW
    rw [rgV_I hf hr]
    by_cases t1 : tn = 1
    · rw [if_neg (not_not_intro t1), if_pos (show ¬ tn = 2 by rw [t1]; decide)]
      by_cases c : nI was ≤ nI far
      · rw [if_pos c, if_pos (Or.inl ⟨t1, c⟩)]
      · rw [if_neg c, if_neg (show ¬ (tn = 1 ∧ nI was ≤ nI far ∨ tn = 2 ∧ nI far ≤ nI was) from fun q => q.elim (fun z => c z.2) (fun z => absurd (t1.symm.trans z.1) (by decide)))]
    · rw [if_pos t1]
      by_cases t2 : tn = 2
      · rw [if_neg (not_not_intro t2)]
        by_cases c : nI was < nI far
        · rw [if_pos c, if_neg (show ¬ (tn = 1 ∧ nI was ≤ nI far ∨ tn = 2 ∧ nI far ≤ nI was) from fun q => q.elim (fun z => t1 z.1) (fun z => Int32.not_le.mpr c z.2))]
        · rw [if_neg c, if_pos (Or.inr ⟨t2, Int32.not_lt.mp c⟩)]
      · rw [if_pos t2, if_neg (show ¬ (tn = 1 ∧ nI was ≤ nI far ∨ tn = 2 ∧ nI far ≤ nI was) from fun q => q.elim (fun z => t1 z.1) (fun z => t2 z.1))]
