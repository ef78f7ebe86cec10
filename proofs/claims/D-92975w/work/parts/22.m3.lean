/-! the reference: ringed, goes -/
set_option maxRecDepth 100000
def ringI (nr hh nt far bef tone rf : Int32) : Int32 :=
  if (nr >>> (hh &&& 31)) &&& 1 = 1 then 1
  else if ((if nt = 0 then tone else 0) = 1 ∧ bef ≤ far) ∨ ((if nt = 0 then tone else 0) = 2 ∧ far ≤ bef) then 0
  else if rf < 0 then 1
  else if (if far < rf then rf - far else far - rf) < 0 then 1
  else if (if far < rf then rf - far else far - rf) = 0 then 2
  else if (if far < rf then rf - far else far - rf) = 1 then 1 else 0
set_option maxHeartbeats 4000000 in
theorem am_ringed {l : Launch} {G : GW} {h : AH} {n : Nat} {s : Nat → Int32} {al : Int64} {F34 F35 F36 E : Nat → Int32} {a b0 b1 j : Nat} (m33 : h 33 = some (MO s al)) (m34 : h 34 = some (IA 8 F34)) (m35 : h 35 = some (IA 7 F35)) (m36 : h 36 = some (IA 7 F36)) (m45 : h 45 = some (IA 7 E)) (hj : j < 6) (hF0 : F34 0 = nI a) (ha : a < 100) (hE0 : E j = nI b0) (hb0 : b0 < 100) (hE1 : E (j + 1) = nI b1) (hb1 : b1 < 100) : AM l G yX4_ringed cX4_ringed 6 (some .int) 1 0 0 [.ref 33, .int (nI (j + 1))] h n (Qi (ringI (s 22) (nI (j + 1)) (s 23) (nI (awayF a b1)) (nI (awayF a b0)) (F36 (j + 1)) (F35 (j + 1))) h n) := by
  refine AM.of (L := [some (.ref 33), some (.int (nI (j + 1))), none, none, none, none]) (by decide) (Nat.le_of_ble_eq_true rfl) rfl ?_
  refine ew_aload_n (t := 1) dX4_ringed_0 rfl rfl rfl ?_
  refine ew_get (t := 4) (j := 22) (v := .int (s 22)) fcX4 m33 (Nat.le_of_ble_eq_true rfl) q1043 rfl dX4_ringed_1 rfl ?_
  refine ew_iload_n (t := 5) dX4_ringed_4 rfl rfl rfl ?_
  refine ew_ishr (t := 6) dX4_ringed_5 rfl ?_
  refine ew_ic1 (t := 7) dX4_ringed_6 rfl ?_
  refine ew_iand (t := 8) dX4_ringed_7 rfl ?_
  refine ew_ic1 (t := 9) dX4_ringed_8 rfl ?_
  refine ew_icmp_ne (t := 14) (t2 := 12) dX4_ringed_9 rfl rfl (fun c_9 => ?_) (fun c_9 => ?_)
  · refine ew_aload_n (t := 15) dX4_ringed_14 rfl rfl rfl ?_
    refine ew_aload_n (t := 16) dX4_ringed_15 rfl rfl rfl ?_
    refine ew_get (t := 19) (j := 14) (v := .ref 45) fcX4 m33 (Nat.le_of_ble_eq_true rfl) q1035 rfl dX4_ringed_16 rfl ?_
    refine ew_iload_n (t := 20) dX4_ringed_19 rfl rfl rfl ?_
    refine ew_iald (t := 21) (j := (j + 1)) (N := 7) m45 (vp_in_nI (by omega) (by omega)) (nI_clamp (by omega)) dX4_ringed_20 rfl ?_
    rw [hE1]
    refine ew_callV (t := 24) (As := [_]) (am_away (b := b1) m33 m34 hF0 ha hb1) (fcX4).1 m33 (lw_V q1164 q1166 qs29 q60 q1167) rfl naX4_away dX4_ringed_21 rfl (Nat.le_of_ble_eq_true rfl) (Nat.le_of_ble_eq_true rfl) (Nat.le_refl _) (Nat.le_refl _) (Nat.le_of_ble_eq_true rfl) rfl (qi ?_)
    refine ew_istore_n (t := 25) (L' := [some (.ref 33), some (.int (nI (j + 1))), some (.int (nI (awayF a b1))), none, none, none]) dX4_ringed_24 rfl (Nat.le_of_ble_eq_true rfl) rfl rfl ?_
    refine ew_aload_n (t := 26) dX4_ringed_25 rfl rfl rfl ?_
    refine ew_aload_n (t := 27) dX4_ringed_26 rfl rfl rfl ?_
    refine ew_get (t := 30) (j := 14) (v := .ref 45) fcX4 m33 (Nat.le_of_ble_eq_true rfl) q1035 rfl dX4_ringed_27 rfl ?_
    refine ew_iload_n (t := 31) dX4_ringed_30 rfl rfl rfl ?_
    refine ew_ic1 (t := 32) dX4_ringed_31 rfl ?_
    refine ew_isub (t := 33) dX4_ringed_32 rfl ?_
    refine ew_iald (t := 34) (j := j) (N := 7) m45 (by rw [nI_pred]; exact vp_in_nI (by omega) (by omega)) (by rw [nI_pred]; exact nI_clamp (by omega)) dX4_ringed_33 rfl ?_
    rw [hE0]
    refine ew_callV (t := 37) (As := [_]) (am_away (b := b0) m33 m34 hF0 ha hb0) (fcX4).1 m33 (lw_V q1164 q1166 qs29 q60 q1167) rfl naX4_away dX4_ringed_34 rfl (Nat.le_of_ble_eq_true rfl) (Nat.le_of_ble_eq_true rfl) (Nat.le_refl _) (Nat.le_refl _) (Nat.le_of_ble_eq_true rfl) rfl (qi ?_)
    refine ew_istore_n (t := 38) (L' := [some (.ref 33), some (.int (nI (j + 1))), some (.int (nI (awayF a b1))), some (.int (nI (awayF a b0))), none, none]) dX4_ringed_37 rfl (Nat.le_of_ble_eq_true rfl) rfl rfl ?_
    refine ew_aload_n (t := 39) dX4_ringed_38 rfl rfl rfl ?_
    refine ew_get (t := 42) (j := 23) (v := .int (s 23)) fcX4 m33 (Nat.le_of_ble_eq_true rfl) q1044 rfl dX4_ringed_39 rfl ?_
    have J55 : ∀ (j55_0 : Int32), j55_0 = ((if (s 23) = 0 then (F36 (j + 1)) else 0) : Int32) → EW l G yX4_ringed cX4_ringed 6 (some .int) 1 0 0 (Qi (ringI (s 22) (nI (j + 1)) (s 23) (nI (awayF a b1)) (nI (awayF a b0)) (F36 (j + 1)) (F35 (j + 1))) h n) 0 0 h n 55 [some (.ref 33), some (.int (nI (j + 1))), some (.int (nI (awayF a b1))), some (.int (nI (awayF a b0))), none, none] [.int j55_0] := by
      intro j55_0 hj55_0
      refine ew_istore (t := 57) (L' := [some (.ref 33), some (.int (nI (j + 1))), some (.int (nI (awayF a b1))), some (.int (nI (awayF a b0))), some (.int j55_0), none]) dX4_ringed_55 (Nat.le_of_ble_eq_true rfl) rfl rfl ?_
      refine ew_iload (t := 59) dX4_ringed_57 rfl rfl ?_
      refine ew_ic1 (t := 60) dX4_ringed_59 rfl ?_
      refine ew_icmp_ne (t := 68) (t2 := 63) dX4_ringed_60 rfl rfl (fun c_60 => ?_) (fun c_60 => ?_)
      · refine ew_iload (t := 70) dX4_ringed_68 rfl rfl ?_
        refine ew_ic2 (t := 71) dX4_ringed_70 rfl ?_
        refine ew_icmp_ne (t := 81) (t2 := 74) dX4_ringed_71 rfl rfl (fun c_71 => ?_) (fun c_71 => ?_)
        · refine ew_aload_n (t := 82) dX4_ringed_81 rfl rfl rfl ?_
          refine ew_get (t := 85) (j := 1) (v := .ref 35) fcX4 m33 (Nat.le_of_ble_eq_true rfl) q1022 rfl dX4_ringed_82 rfl ?_
          refine ew_iload_n (t := 86) dX4_ringed_85 rfl rfl rfl ?_
          refine ew_iald (t := 87) (j := (j + 1)) (N := 7) m35 (vp_in_nI (by omega) (by omega)) (nI_clamp (by omega)) dX4_ringed_86 rfl ?_
          have J123 : ∀ (j123_0 : Int32), j123_0 = ((if 0 ≤ (F35 (j + 1)) then (if (F35 (j + 1)) ≤ (nI (awayF a b1)) then ((nI (awayF a b1)) - (F35 (j + 1))) else ((F35 (j + 1)) - (nI (awayF a b1)))) else (-1)) : Int32) → EW l G yX4_ringed cX4_ringed 6 (some .int) 1 0 0 (Qi (ringI (s 22) (nI (j + 1)) (s 23) (nI (awayF a b1)) (nI (awayF a b0)) (F36 (j + 1)) (F35 (j + 1))) h n) 0 0 h n 123 [some (.ref 33), some (.int (nI (j + 1))), some (.int (nI (awayF a b1))), some (.int (nI (awayF a b0))), some (.int j55_0), none] [.int j123_0] := by
            intro j123_0 hj123_0
            refine ew_istore (t := 125) (L' := [some (.ref 33), some (.int (nI (j + 1))), some (.int (nI (awayF a b1))), some (.int (nI (awayF a b0))), some (.int j55_0), some (.int j123_0)]) dX4_ringed_123 (Nat.le_of_ble_eq_true rfl) rfl rfl ?_
            refine ew_iload (t := 127) dX4_ringed_125 rfl rfl ?_
            refine ew_if_ge (t := 134) (t2 := 130) dX4_ringed_127 rfl rfl (fun c_127 => ?_) (fun c_127 => ?_)
            · refine ew_iload (t := 136) dX4_ringed_134 rfl rfl ?_
              refine ew_if_ne (t := 143) (t2 := 139) dX4_ringed_136 rfl rfl (fun c_136 => ?_) (fun c_136 => ?_)
              · refine ew_iload (t := 145) dX4_ringed_143 rfl rfl ?_
                refine ew_ic1 (t := 146) dX4_ringed_145 rfl ?_
                refine ew_icmp_ne (t := 153) (t2 := 149) dX4_ringed_146 rfl rfl (fun c_146 => ?_) (fun c_146 => ?_)
                · refine ew_ic0 (t := 154) dX4_ringed_153 rfl ?_
                  exact ew_iret rfl dX4_ringed_154 (Nat.le_refl _) (Nat.le_refl _) ⟨by grind [ringI], rfl, rfl⟩
                · refine ew_ic1 (t := 150) dX4_ringed_149 rfl ?_
                  refine ew_goto (t := 154) dX4_ringed_150 rfl ?_
                  exact ew_iret rfl dX4_ringed_154 (Nat.le_refl _) (Nat.le_refl _) ⟨by grind [ringI], rfl, rfl⟩
              · refine ew_ic2 (t := 140) dX4_ringed_139 rfl ?_
                refine ew_goto (t := 154) dX4_ringed_140 rfl ?_
                exact ew_iret rfl dX4_ringed_154 (Nat.le_refl _) (Nat.le_refl _) ⟨by grind [ringI], rfl, rfl⟩
            · refine ew_ic1 (t := 131) dX4_ringed_130 rfl ?_
              refine ew_goto (t := 154) dX4_ringed_131 rfl ?_
              exact ew_iret rfl dX4_ringed_154 (Nat.le_refl _) (Nat.le_refl _) ⟨by grind [ringI], rfl, rfl⟩
          refine ew_if_ge (t := 94) (t2 := 90) dX4_ringed_87 rfl rfl (fun c_87 => ?_) (fun c_87 => ?_)
          · refine ew_iload_n (t := 95) dX4_ringed_94 rfl rfl rfl ?_
            refine ew_aload_n (t := 96) dX4_ringed_95 rfl rfl rfl ?_
            refine ew_get (t := 99) (j := 1) (v := .ref 35) fcX4 m33 (Nat.le_of_ble_eq_true rfl) q1022 rfl dX4_ringed_96 rfl ?_
            refine ew_iload_n (t := 100) dX4_ringed_99 rfl rfl rfl ?_
            refine ew_iald (t := 101) (j := (j + 1)) (N := 7) m35 (vp_in_nI (by omega) (by omega)) (nI_clamp (by omega)) dX4_ringed_100 rfl ?_
            refine ew_icmp_ge (t := 115) (t2 := 104) dX4_ringed_101 rfl rfl (fun c_101 => ?_) (fun c_101 => ?_)
            · refine ew_iload_n (t := 116) dX4_ringed_115 rfl rfl rfl ?_
              refine ew_aload_n (t := 117) dX4_ringed_116 rfl rfl rfl ?_
              refine ew_get (t := 120) (j := 1) (v := .ref 35) fcX4 m33 (Nat.le_of_ble_eq_true rfl) q1022 rfl dX4_ringed_117 rfl ?_
              refine ew_iload_n (t := 121) dX4_ringed_120 rfl rfl rfl ?_
              refine ew_iald (t := 122) (j := (j + 1)) (N := 7) m35 (vp_in_nI (by omega) (by omega)) (nI_clamp (by omega)) dX4_ringed_121 rfl ?_
              refine ew_isub (t := 123) dX4_ringed_122 rfl ?_
              exact J123 ((nI (awayF a b1)) - (F35 (j + 1))) (by simp only [if_pos c_87, if_pos c_101])
            · refine ew_aload_n (t := 105) dX4_ringed_104 rfl rfl rfl ?_
              refine ew_get (t := 108) (j := 1) (v := .ref 35) fcX4 m33 (Nat.le_of_ble_eq_true rfl) q1022 rfl dX4_ringed_105 rfl ?_
              refine ew_iload_n (t := 109) dX4_ringed_108 rfl rfl rfl ?_
              refine ew_iald (t := 110) (j := (j + 1)) (N := 7) m35 (vp_in_nI (by omega) (by omega)) (nI_clamp (by omega)) dX4_ringed_109 rfl ?_
              refine ew_iload_n (t := 111) dX4_ringed_110 rfl rfl rfl ?_
              refine ew_isub (t := 112) dX4_ringed_111 rfl ?_
              refine ew_goto (t := 123) dX4_ringed_112 rfl ?_
              exact J123 ((F35 (j + 1)) - (nI (awayF a b1))) (by simp only [if_pos c_87, if_neg c_101])
          · refine ew_icm1 (t := 91) dX4_ringed_90 rfl ?_
            refine ew_goto (t := 123) dX4_ringed_91 rfl ?_
            exact J123 (-1) (by simp only [if_neg c_87])
        · refine ew_iload_n (t := 75) dX4_ringed_74 rfl rfl rfl ?_
          refine ew_iload_n (t := 76) dX4_ringed_75 rfl rfl rfl ?_
          refine ew_icmp_gt (t := 81) (t2 := 79) dX4_ringed_76 rfl rfl (fun c_76 => ?_) (fun c_76 => ?_)
          · refine ew_aload_n (t := 82) dX4_ringed_81 rfl rfl rfl ?_
            refine ew_get (t := 85) (j := 1) (v := .ref 35) fcX4 m33 (Nat.le_of_ble_eq_true rfl) q1022 rfl dX4_ringed_82 rfl ?_
            refine ew_iload_n (t := 86) dX4_ringed_85 rfl rfl rfl ?_
            refine ew_iald (t := 87) (j := (j + 1)) (N := 7) m35 (vp_in_nI (by omega) (by omega)) (nI_clamp (by omega)) dX4_ringed_86 rfl ?_
            have J123 : ∀ (j123_0 : Int32), j123_0 = ((if 0 ≤ (F35 (j + 1)) then (if (F35 (j + 1)) ≤ (nI (awayF a b1)) then ((nI (awayF a b1)) - (F35 (j + 1))) else ((F35 (j + 1)) - (nI (awayF a b1)))) else (-1)) : Int32) → EW l G yX4_ringed cX4_ringed 6 (some .int) 1 0 0 (Qi (ringI (s 22) (nI (j + 1)) (s 23) (nI (awayF a b1)) (nI (awayF a b0)) (F36 (j + 1)) (F35 (j + 1))) h n) 0 0 h n 123 [some (.ref 33), some (.int (nI (j + 1))), some (.int (nI (awayF a b1))), some (.int (nI (awayF a b0))), some (.int j55_0), none] [.int j123_0] := by
              intro j123_0 hj123_0
              refine ew_istore (t := 125) (L' := [some (.ref 33), some (.int (nI (j + 1))), some (.int (nI (awayF a b1))), some (.int (nI (awayF a b0))), some (.int j55_0), some (.int j123_0)]) dX4_ringed_123 (Nat.le_of_ble_eq_true rfl) rfl rfl ?_
              refine ew_iload (t := 127) dX4_ringed_125 rfl rfl ?_
              refine ew_if_ge (t := 134) (t2 := 130) dX4_ringed_127 rfl rfl (fun c_127 => ?_) (fun c_127 => ?_)
              · refine ew_iload (t := 136) dX4_ringed_134 rfl rfl ?_
                refine ew_if_ne (t := 143) (t2 := 139) dX4_ringed_136 rfl rfl (fun c_136 => ?_) (fun c_136 => ?_)
                · refine ew_iload (t := 145) dX4_ringed_143 rfl rfl ?_
                  refine ew_ic1 (t := 146) dX4_ringed_145 rfl ?_
                  refine ew_icmp_ne (t := 153) (t2 := 149) dX4_ringed_146 rfl rfl (fun c_146 => ?_) (fun c_146 => ?_)
                  · refine ew_ic0 (t := 154) dX4_ringed_153 rfl ?_
                    exact ew_iret rfl dX4_ringed_154 (Nat.le_refl _) (Nat.le_refl _) ⟨by grind [ringI], rfl, rfl⟩
                  · refine ew_ic1 (t := 150) dX4_ringed_149 rfl ?_
                    refine ew_goto (t := 154) dX4_ringed_150 rfl ?_
                    exact ew_iret rfl dX4_ringed_154 (Nat.le_refl _) (Nat.le_refl _) ⟨by grind [ringI], rfl, rfl⟩
                · refine ew_ic2 (t := 140) dX4_ringed_139 rfl ?_
                  refine ew_goto (t := 154) dX4_ringed_140 rfl ?_
                  exact ew_iret rfl dX4_ringed_154 (Nat.le_refl _) (Nat.le_refl _) ⟨by grind [ringI], rfl, rfl⟩
              · refine ew_ic1 (t := 131) dX4_ringed_130 rfl ?_
                refine ew_goto (t := 154) dX4_ringed_131 rfl ?_
                exact ew_iret rfl dX4_ringed_154 (Nat.le_refl _) (Nat.le_refl _) ⟨by grind [ringI], rfl, rfl⟩
            refine ew_if_ge (t := 94) (t2 := 90) dX4_ringed_87 rfl rfl (fun c_87 => ?_) (fun c_87 => ?_)
            · refine ew_iload_n (t := 95) dX4_ringed_94 rfl rfl rfl ?_
              refine ew_aload_n (t := 96) dX4_ringed_95 rfl rfl rfl ?_
              refine ew_get (t := 99) (j := 1) (v := .ref 35) fcX4 m33 (Nat.le_of_ble_eq_true rfl) q1022 rfl dX4_ringed_96 rfl ?_
              refine ew_iload_n (t := 100) dX4_ringed_99 rfl rfl rfl ?_
              refine ew_iald (t := 101) (j := (j + 1)) (N := 7) m35 (vp_in_nI (by omega) (by omega)) (nI_clamp (by omega)) dX4_ringed_100 rfl ?_
              refine ew_icmp_ge (t := 115) (t2 := 104) dX4_ringed_101 rfl rfl (fun c_101 => ?_) (fun c_101 => ?_)
              · refine ew_iload_n (t := 116) dX4_ringed_115 rfl rfl rfl ?_
                refine ew_aload_n (t := 117) dX4_ringed_116 rfl rfl rfl ?_
                refine ew_get (t := 120) (j := 1) (v := .ref 35) fcX4 m33 (Nat.le_of_ble_eq_true rfl) q1022 rfl dX4_ringed_117 rfl ?_
                refine ew_iload_n (t := 121) dX4_ringed_120 rfl rfl rfl ?_
                refine ew_iald (t := 122) (j := (j + 1)) (N := 7) m35 (vp_in_nI (by omega) (by omega)) (nI_clamp (by omega)) dX4_ringed_121 rfl ?_
                refine ew_isub (t := 123) dX4_ringed_122 rfl ?_
                exact J123 ((nI (awayF a b1)) - (F35 (j + 1))) (by simp only [if_pos c_87, if_pos c_101])
              · refine ew_aload_n (t := 105) dX4_ringed_104 rfl rfl rfl ?_
                refine ew_get (t := 108) (j := 1) (v := .ref 35) fcX4 m33 (Nat.le_of_ble_eq_true rfl) q1022 rfl dX4_ringed_105 rfl ?_
                refine ew_iload_n (t := 109) dX4_ringed_108 rfl rfl rfl ?_
                refine ew_iald (t := 110) (j := (j + 1)) (N := 7) m35 (vp_in_nI (by omega) (by omega)) (nI_clamp (by omega)) dX4_ringed_109 rfl ?_
                refine ew_iload_n (t := 111) dX4_ringed_110 rfl rfl rfl ?_
                refine ew_isub (t := 112) dX4_ringed_111 rfl ?_
                refine ew_goto (t := 123) dX4_ringed_112 rfl ?_
                exact J123 ((F35 (j + 1)) - (nI (awayF a b1))) (by simp only [if_pos c_87, if_neg c_101])
            · refine ew_icm1 (t := 91) dX4_ringed_90 rfl ?_
              refine ew_goto (t := 123) dX4_ringed_91 rfl ?_
              exact J123 (-1) (by simp only [if_neg c_87])
          · refine ew_ic0 (t := 80) dX4_ringed_79 rfl ?_
            exact ew_iret rfl dX4_ringed_80 (Nat.le_refl _) (Nat.le_refl _) ⟨by grind [ringI], rfl, rfl⟩
      · refine ew_iload_n (t := 64) dX4_ringed_63 rfl rfl rfl ?_
        refine ew_iload_n (t := 65) dX4_ringed_64 rfl rfl rfl ?_
        refine ew_icmp_ge (t := 79) (t2 := 68) dX4_ringed_65 rfl rfl (fun c_65 => ?_) (fun c_65 => ?_)
        · refine ew_ic0 (t := 80) dX4_ringed_79 rfl ?_
          exact ew_iret rfl dX4_ringed_80 (Nat.le_refl _) (Nat.le_refl _) ⟨by grind [ringI], rfl, rfl⟩
        · refine ew_iload (t := 70) dX4_ringed_68 rfl rfl ?_
          refine ew_ic2 (t := 71) dX4_ringed_70 rfl ?_
          refine ew_icmp_ne (t := 81) (t2 := 74) dX4_ringed_71 rfl rfl (fun c_71 => ?_) (fun c_71 => ?_)
          · refine ew_aload_n (t := 82) dX4_ringed_81 rfl rfl rfl ?_
            refine ew_get (t := 85) (j := 1) (v := .ref 35) fcX4 m33 (Nat.le_of_ble_eq_true rfl) q1022 rfl dX4_ringed_82 rfl ?_
            refine ew_iload_n (t := 86) dX4_ringed_85 rfl rfl rfl ?_
            refine ew_iald (t := 87) (j := (j + 1)) (N := 7) m35 (vp_in_nI (by omega) (by omega)) (nI_clamp (by omega)) dX4_ringed_86 rfl ?_
            have J123 : ∀ (j123_0 : Int32), j123_0 = ((if 0 ≤ (F35 (j + 1)) then (if (F35 (j + 1)) ≤ (nI (awayF a b1)) then ((nI (awayF a b1)) - (F35 (j + 1))) else ((F35 (j + 1)) - (nI (awayF a b1)))) else (-1)) : Int32) → EW l G yX4_ringed cX4_ringed 6 (some .int) 1 0 0 (Qi (ringI (s 22) (nI (j + 1)) (s 23) (nI (awayF a b1)) (nI (awayF a b0)) (F36 (j + 1)) (F35 (j + 1))) h n) 0 0 h n 123 [some (.ref 33), some (.int (nI (j + 1))), some (.int (nI (awayF a b1))), some (.int (nI (awayF a b0))), some (.int j55_0), none] [.int j123_0] := by
              intro j123_0 hj123_0
              refine ew_istore (t := 125) (L' := [some (.ref 33), some (.int (nI (j + 1))), some (.int (nI (awayF a b1))), some (.int (nI (awayF a b0))), some (.int j55_0), some (.int j123_0)]) dX4_ringed_123 (Nat.le_of_ble_eq_true rfl) rfl rfl ?_
              refine ew_iload (t := 127) dX4_ringed_125 rfl rfl ?_
              refine ew_if_ge (t := 134) (t2 := 130) dX4_ringed_127 rfl rfl (fun c_127 => ?_) (fun c_127 => ?_)
              · refine ew_iload (t := 136) dX4_ringed_134 rfl rfl ?_
                refine ew_if_ne (t := 143) (t2 := 139) dX4_ringed_136 rfl rfl (fun c_136 => ?_) (fun c_136 => ?_)
                · refine ew_iload (t := 145) dX4_ringed_143 rfl rfl ?_
                  refine ew_ic1 (t := 146) dX4_ringed_145 rfl ?_
                  refine ew_icmp_ne (t := 153) (t2 := 149) dX4_ringed_146 rfl rfl (fun c_146 => ?_) (fun c_146 => ?_)
                  · refine ew_ic0 (t := 154) dX4_ringed_153 rfl ?_
                    exact ew_iret rfl dX4_ringed_154 (Nat.le_refl _) (Nat.le_refl _) ⟨by grind [ringI], rfl, rfl⟩
                  · refine ew_ic1 (t := 150) dX4_ringed_149 rfl ?_
                    refine ew_goto (t := 154) dX4_ringed_150 rfl ?_
                    exact ew_iret rfl dX4_ringed_154 (Nat.le_refl _) (Nat.le_refl _) ⟨by grind [ringI], rfl, rfl⟩
                · refine ew_ic2 (t := 140) dX4_ringed_139 rfl ?_
                  refine ew_goto (t := 154) dX4_ringed_140 rfl ?_
                  exact ew_iret rfl dX4_ringed_154 (Nat.le_refl _) (Nat.le_refl _) ⟨by grind [ringI], rfl, rfl⟩
              · refine ew_ic1 (t := 131) dX4_ringed_130 rfl ?_
                refine ew_goto (t := 154) dX4_ringed_131 rfl ?_
                exact ew_iret rfl dX4_ringed_154 (Nat.le_refl _) (Nat.le_refl _) ⟨by grind [ringI], rfl, rfl⟩
            refine ew_if_ge (t := 94) (t2 := 90) dX4_ringed_87 rfl rfl (fun c_87 => ?_) (fun c_87 => ?_)
            · refine ew_iload_n (t := 95) dX4_ringed_94 rfl rfl rfl ?_
              refine ew_aload_n (t := 96) dX4_ringed_95 rfl rfl rfl ?_
              refine ew_get (t := 99) (j := 1) (v := .ref 35) fcX4 m33 (Nat.le_of_ble_eq_true rfl) q1022 rfl dX4_ringed_96 rfl ?_
              refine ew_iload_n (t := 100) dX4_ringed_99 rfl rfl rfl ?_
              refine ew_iald (t := 101) (j := (j + 1)) (N := 7) m35 (vp_in_nI (by omega) (by omega)) (nI_clamp (by omega)) dX4_ringed_100 rfl ?_
              refine ew_icmp_ge (t := 115) (t2 := 104) dX4_ringed_101 rfl rfl (fun c_101 => ?_) (fun c_101 => ?_)
              · refine ew_iload_n (t := 116) dX4_ringed_115 rfl rfl rfl ?_
                refine ew_aload_n (t := 117) dX4_ringed_116 rfl rfl rfl ?_
                refine ew_get (t := 120) (j := 1) (v := .ref 35) fcX4 m33 (Nat.le_of_ble_eq_true rfl) q1022 rfl dX4_ringed_117 rfl ?_
                refine ew_iload_n (t := 121) dX4_ringed_120 rfl rfl rfl ?_
                refine ew_iald (t := 122) (j := (j + 1)) (N := 7) m35 (vp_in_nI (by omega) (by omega)) (nI_clamp (by omega)) dX4_ringed_121 rfl ?_
                refine ew_isub (t := 123) dX4_ringed_122 rfl ?_
                exact J123 ((nI (awayF a b1)) - (F35 (j + 1))) (by simp only [if_pos c_87, if_pos c_101])
              · refine ew_aload_n (t := 105) dX4_ringed_104 rfl rfl rfl ?_
                refine ew_get (t := 108) (j := 1) (v := .ref 35) fcX4 m33 (Nat.le_of_ble_eq_true rfl) q1022 rfl dX4_ringed_105 rfl ?_
                refine ew_iload_n (t := 109) dX4_ringed_108 rfl rfl rfl ?_
                refine ew_iald (t := 110) (j := (j + 1)) (N := 7) m35 (vp_in_nI (by omega) (by omega)) (nI_clamp (by omega)) dX4_ringed_109 rfl ?_
                refine ew_iload_n (t := 111) dX4_ringed_110 rfl rfl rfl ?_
                refine ew_isub (t := 112) dX4_ringed_111 rfl ?_
                refine ew_goto (t := 123) dX4_ringed_112 rfl ?_
                exact J123 ((F35 (j + 1)) - (nI (awayF a b1))) (by simp only [if_pos c_87, if_neg c_101])
            · refine ew_icm1 (t := 91) dX4_ringed_90 rfl ?_
              refine ew_goto (t := 123) dX4_ringed_91 rfl ?_
              exact J123 (-1) (by simp only [if_neg c_87])
          · refine ew_iload_n (t := 75) dX4_ringed_74 rfl rfl rfl ?_
            refine ew_iload_n (t := 76) dX4_ringed_75 rfl rfl rfl ?_
            refine ew_icmp_gt (t := 81) (t2 := 79) dX4_ringed_76 rfl rfl (fun c_76 => ?_) (fun c_76 => ?_)
            · refine ew_aload_n (t := 82) dX4_ringed_81 rfl rfl rfl ?_
              refine ew_get (t := 85) (j := 1) (v := .ref 35) fcX4 m33 (Nat.le_of_ble_eq_true rfl) q1022 rfl dX4_ringed_82 rfl ?_
              refine ew_iload_n (t := 86) dX4_ringed_85 rfl rfl rfl ?_
              refine ew_iald (t := 87) (j := (j + 1)) (N := 7) m35 (vp_in_nI (by omega) (by omega)) (nI_clamp (by omega)) dX4_ringed_86 rfl ?_
              have J123 : ∀ (j123_0 : Int32), j123_0 = ((if 0 ≤ (F35 (j + 1)) then (if (F35 (j + 1)) ≤ (nI (awayF a b1)) then ((nI (awayF a b1)) - (F35 (j + 1))) else ((F35 (j + 1)) - (nI (awayF a b1)))) else (-1)) : Int32) → EW l G yX4_ringed cX4_ringed 6 (some .int) 1 0 0 (Qi (ringI (s 22) (nI (j + 1)) (s 23) (nI (awayF a b1)) (nI (awayF a b0)) (F36 (j + 1)) (F35 (j + 1))) h n) 0 0 h n 123 [some (.ref 33), some (.int (nI (j + 1))), some (.int (nI (awayF a b1))), some (.int (nI (awayF a b0))), some (.int j55_0), none] [.int j123_0] := by
                intro j123_0 hj123_0
                refine ew_istore (t := 125) (L' := [some (.ref 33), some (.int (nI (j + 1))), some (.int (nI (awayF a b1))), some (.int (nI (awayF a b0))), some (.int j55_0), some (.int j123_0)]) dX4_ringed_123 (Nat.le_of_ble_eq_true rfl) rfl rfl ?_
                refine ew_iload (t := 127) dX4_ringed_125 rfl rfl ?_
                refine ew_if_ge (t := 134) (t2 := 130) dX4_ringed_127 rfl rfl (fun c_127 => ?_) (fun c_127 => ?_)
                · refine ew_iload (t := 136) dX4_ringed_134 rfl rfl ?_
                  refine ew_if_ne (t := 143) (t2 := 139) dX4_ringed_136 rfl rfl (fun c_136 => ?_) (fun c_136 => ?_)
                  · refine ew_iload (t := 145) dX4_ringed_143 rfl rfl ?_
                    refine ew_ic1 (t := 146) dX4_ringed_145 rfl ?_
                    refine ew_icmp_ne (t := 153) (t2 := 149) dX4_ringed_146 rfl rfl (fun c_146 => ?_) (fun c_146 => ?_)
                    · refine ew_ic0 (t := 154) dX4_ringed_153 rfl ?_
                      exact ew_iret rfl dX4_ringed_154 (Nat.le_refl _) (Nat.le_refl _) ⟨by grind [ringI], rfl, rfl⟩
                    · refine ew_ic1 (t := 150) dX4_ringed_149 rfl ?_
                      refine ew_goto (t := 154) dX4_ringed_150 rfl ?_
                      exact ew_iret rfl dX4_ringed_154 (Nat.le_refl _) (Nat.le_refl _) ⟨by grind [ringI], rfl, rfl⟩
                  · refine ew_ic2 (t := 140) dX4_ringed_139 rfl ?_
                    refine ew_goto (t := 154) dX4_ringed_140 rfl ?_
                    exact ew_iret rfl dX4_ringed_154 (Nat.le_refl _) (Nat.le_refl _) ⟨by grind [ringI], rfl, rfl⟩
                · refine ew_ic1 (t := 131) dX4_ringed_130 rfl ?_
                  refine ew_goto (t := 154) dX4_ringed_131 rfl ?_
                  exact ew_iret rfl dX4_ringed_154 (Nat.le_refl _) (Nat.le_refl _) ⟨by grind [ringI], rfl, rfl⟩
              refine ew_if_ge (t := 94) (t2 := 90) dX4_ringed_87 rfl rfl (fun c_87 => ?_) (fun c_87 => ?_)
              · refine ew_iload_n (t := 95) dX4_ringed_94 rfl rfl rfl ?_
                refine ew_aload_n (t := 96) dX4_ringed_95 rfl rfl rfl ?_
                refine ew_get (t := 99) (j := 1) (v := .ref 35) fcX4 m33 (Nat.le_of_ble_eq_true rfl) q1022 rfl dX4_ringed_96 rfl ?_
                refine ew_iload_n (t := 100) dX4_ringed_99 rfl rfl rfl ?_
                refine ew_iald (t := 101) (j := (j + 1)) (N := 7) m35 (vp_in_nI (by omega) (by omega)) (nI_clamp (by omega)) dX4_ringed_100 rfl ?_
                refine ew_icmp_ge (t := 115) (t2 := 104) dX4_ringed_101 rfl rfl (fun c_101 => ?_) (fun c_101 => ?_)
                · refine ew_iload_n (t := 116) dX4_ringed_115 rfl rfl rfl ?_
                  refine ew_aload_n (t := 117) dX4_ringed_116 rfl rfl rfl ?_
                  refine ew_get (t := 120) (j := 1) (v := .ref 35) fcX4 m33 (Nat.le_of_ble_eq_true rfl) q1022 rfl dX4_ringed_117 rfl ?_
                  refine ew_iload_n (t := 121) dX4_ringed_120 rfl rfl rfl ?_
                  refine ew_iald (t := 122) (j := (j + 1)) (N := 7) m35 (vp_in_nI (by omega) (by omega)) (nI_clamp (by omega)) dX4_ringed_121 rfl ?_
                  refine ew_isub (t := 123) dX4_ringed_122 rfl ?_
                  exact J123 ((nI (awayF a b1)) - (F35 (j + 1))) (by simp only [if_pos c_87, if_pos c_101])
                · refine ew_aload_n (t := 105) dX4_ringed_104 rfl rfl rfl ?_
                  refine ew_get (t := 108) (j := 1) (v := .ref 35) fcX4 m33 (Nat.le_of_ble_eq_true rfl) q1022 rfl dX4_ringed_105 rfl ?_
                  refine ew_iload_n (t := 109) dX4_ringed_108 rfl rfl rfl ?_
                  refine ew_iald (t := 110) (j := (j + 1)) (N := 7) m35 (vp_in_nI (by omega) (by omega)) (nI_clamp (by omega)) dX4_ringed_109 rfl ?_
                  refine ew_iload_n (t := 111) dX4_ringed_110 rfl rfl rfl ?_
                  refine ew_isub (t := 112) dX4_ringed_111 rfl ?_
                  refine ew_goto (t := 123) dX4_ringed_112 rfl ?_
                  exact J123 ((F35 (j + 1)) - (nI (awayF a b1))) (by simp only [if_pos c_87, if_neg c_101])
              · refine ew_icm1 (t := 91) dX4_ringed_90 rfl ?_
                refine ew_goto (t := 123) dX4_ringed_91 rfl ?_
                exact J123 (-1) (by simp only [if_neg c_87])
            · refine ew_ic0 (t := 80) dX4_ringed_79 rfl ?_
              exact ew_iret rfl dX4_ringed_80 (Nat.le_refl _) (Nat.le_refl _) ⟨by grind [ringI], rfl, rfl⟩
    refine ew_if_eq (t := 49) (t2 := 45) dX4_ringed_42 rfl rfl (fun c_42 => ?_) (fun c_42 => ?_)
    · refine ew_aload_n (t := 50) dX4_ringed_49 rfl rfl rfl ?_
      refine ew_get (t := 53) (j := 2) (v := .ref 36) fcX4 m33 (Nat.le_of_ble_eq_true rfl) q1023 rfl dX4_ringed_50 rfl ?_
      refine ew_iload_n (t := 54) dX4_ringed_53 rfl rfl rfl ?_
      refine ew_iald (t := 55) (j := (j + 1)) (N := 7) m36 (vp_in_nI (by omega) (by omega)) (nI_clamp (by omega)) dX4_ringed_54 rfl ?_
      exact J55 (F36 (j + 1)) (by simp only [if_pos c_42])
    · refine ew_ic0 (t := 46) dX4_ringed_45 rfl ?_
      refine ew_goto (t := 55) dX4_ringed_46 rfl ?_
      exact J55 0 (by simp only [if_neg c_42])
  · refine ew_ic1 (t := 13) dX4_ringed_12 rfl ?_
    exact ew_iret rfl dX4_ringed_13 (Nat.le_refl _) (Nat.le_refl _) ⟨by grind [ringI], rfl, rfl⟩
