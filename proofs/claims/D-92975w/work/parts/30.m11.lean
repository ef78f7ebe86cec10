/-! the reference: fit -/
set_option maxRecDepth 100000
/-- it was warm enough in all months so far: the parts of a piece at P, from i on; it began at b -/
def wmF (P CU WA : Nat → Int32) (wd : Int32) (i b : Nat) : Nat → Bool
  | 0 => true
  | k + 1 => if wmF P CU WA wd i b k = true then (if nI k < P (i + 1) - P (i + 3) then true else if WA (100 * (k % 2) + drIt CU wd (P (i + 2)) b k) < P (i + 4) then false else true) else false
def fitI (wm : Bool) (c c0 : Int32) : Int32 := if wm = true then (if inL (c / 10 - c0 / 10).toInt64 (-1) 1 = true then (if inL ((c - c / 10 * 10) - (c0 - c0 / 10 * 10)).toInt64 (-1) 1 = true then (if ¬ c = c0 then 1 else 4) else 0) else 0) else 0
theorem b2i_n {b : Bool} (h : b2i b = 0) : ¬ b = true := by rw [b2i_0.mp h]; decide
theorem inL_m1 (z : Int32) : inL z.toInt64 (-1) 1 = inI z (-1) 1 := inL_I z (-1) 1
/-- how a piece fits, that began at the cell b -/
def fitF (P CU WA : Nat → Int32) (wd : Int32) (i b : Nat) : Int32 := fitI (wmF P CU WA wd i b (P (i + 1)).toNatClampNeg) (nI (drIt CU wd (P (i + 2)) b (P (i + 1)).toNatClampNeg)) (P i)
set_option maxHeartbeats 4000000 in
theorem lp_fit {l : Launch} {G : GW} {h : AH} {n : Nat} {s : Nat → Int32} {al : Int64} {F34 CU WA P : Nat → Int32} (m33 : h 33 = some (MO s al)) (m34 : h 34 = some (IA 8 F34)) (m37 : h 37 = some (IA 200 CU)) (m38 : h 38 = some (IA 200 WA)) (m52 : h 52 = some (IA 20 P)) {Q : Option Value → AH → Nat → Prop} {i b N : Nat} {o1 o2 o8 o9 : Option Value} (hi16 : i < 16) (hb : b < 100) (hN : N < 100) (hN1 : nI N = P (i + 1)) (kk : EW l G yX4_fit cX4_fit 10 (some .int) 3 0 0 Q 0 0 h n 108 [some (.ref 33), o1, o2, some (.int (nI i)), some (.int (nI N)), some (.int (nI (drIt CU (F34 7) (P (i + 2)) b N))), some (.int (b2i (wmF P CU WA (F34 7) i b N))), some (.int (nI N)), o8, o9] []) : ∀ (f k : Nat), k + f = N → EW l G yX4_fit cX4_fit 10 (some .int) 3 0 0 Q 0 0 h n 23 [some (.ref 33), o1, o2, some (.int (nI i)), some (.int (nI N)), some (.int (nI (drIt CU (F34 7) (P (i + 2)) b k))), some (.int (b2i (wmF P CU WA (F34 7) i b k))), some (.int (nI k)), o8, o9] [] := by
  intro f
  induction f with
  | zero =>
    intro k  hk
    refine ew_iload (t := 25) dX4_fit_23 rfl rfl ?_
    refine ew_iload (t := 27) dX4_fit_25 rfl rfl ?_
    refine ew_icmp_ge (t := 108) (t2 := 30) dX4_fit_27 rfl rfl (fun c_27 => ?_) (fun c_27 => ?_)
    · rw [show k = N by omega]
      exact kk
    · exact absurd c_27 (by rw [show k = N by omega]; exact not_not_intro (Int32.le_refl _))
  | succ f ih =>
    intro k  hk
    refine ew_iload (t := 25) dX4_fit_23 rfl rfl ?_
    refine ew_iload (t := 27) dX4_fit_25 rfl rfl ?_
    refine ew_icmp_ge (t := 108) (t2 := 30) dX4_fit_27 rfl rfl (fun c_27 => ?_) (fun c_27 => ?_)
    · exact absurd c_27 (nI_ge (by omega) (by omega))
    · refine ew_iload (t := 32) dX4_fit_30 rfl rfl ?_
      have J82 : ∀ (j82_0 : Int32), j82_0 = ((if (b2i (wmF P CU WA (F34 7) i b k)) = 0 then 0 else (if (nI k) < ((nI N) - (P (i + 3))) then 1 else (if (WA (100 * (k % 2) + (drIt CU (F34 7) (P (i + 2)) b k))) < (P (i + 4)) then 0 else 1))) : Int32) → EW l G yX4_fit cX4_fit 10 (some .int) 3 0 0 Q 0 0 h n 82 [some (.ref 33), o1, o2, some (.int (nI i)), some (.int (nI N)), some (.int (nI (drIt CU (F34 7) (P (i + 2)) b k))), some (.int (b2i (wmF P CU WA (F34 7) i b k))), some (.int (nI k)), o8, o9] [.int j82_0] := by
        intro j82_0 hj82_0
        refine ew_istore (t := 84) (L' := [some (.ref 33), o1, o2, some (.int (nI i)), some (.int (nI N)), some (.int (nI (drIt CU (F34 7) (P (i + 2)) b k))), some (.int j82_0), some (.int (nI k)), o8, o9]) dX4_fit_82 (Nat.le_of_ble_eq_true rfl) rfl rfl ?_
        refine ew_aload_n (t := 85) dX4_fit_84 rfl rfl rfl ?_
        refine ew_iload (t := 87) dX4_fit_85 rfl rfl ?_
        refine ew_iload (t := 89) dX4_fit_87 rfl rfl ?_
        refine ew_aload_n (t := 90) dX4_fit_89 rfl rfl rfl ?_
        refine ew_get (t := 93) (j := 26) (v := .ref 52) fcX4 m33 (Nat.le_of_ble_eq_true rfl) q1047 rfl dX4_fit_90 rfl ?_
        refine ew_iload_n (t := 94) dX4_fit_93 rfl rfl rfl ?_
        refine ew_ic2 (t := 95) dX4_fit_94 rfl ?_
        refine ew_iadd (t := 96) dX4_fit_95 rfl ?_
        refine ew_iald (t := 97) (j := (i + 2)) (N := 20) m52 (by rw [(show nI i + 2 = nI (i + 2) from nI_add i 2)]; exact vp_in_nI (by omega) (by omega)) (by rw [(show nI i + 2 = nI (i + 2) from nI_add i 2)]; exact nI_clamp (by omega)) dX4_fit_96 rfl ?_
        refine ew_callV (t := 100) (As := [_, _, _]) (am_drifted m33 m34 m37 (drIt_lt hb k) (by omega)) (fcX4).1 m33 (lw_V q1282 q1284 qs41 q60 q1285) rfl naX4_drifted dX4_fit_97 rfl (Nat.le_of_ble_eq_true rfl) (Nat.le_of_ble_eq_true rfl) (Nat.le_refl _) (Nat.le_refl _) (Nat.le_of_ble_eq_true rfl) rfl (qi ?_)
        refine ew_istore (t := 102) (L' := [some (.ref 33), o1, o2, some (.int (nI i)), some (.int (nI N)), some (.int (nI (drN CU (F34 7) (P (i + 2)) k (drIt CU (F34 7) (P (i + 2)) b k)))), some (.int j82_0), some (.int (nI k)), o8, o9]) dX4_fit_100 (Nat.le_of_ble_eq_true rfl) rfl rfl ?_
        refine ew_iinc (t := 105) (x := (nI k)) (v := ((nI k) + 1)) (L' := [some (.ref 33), o1, o2, some (.int (nI i)), some (.int (nI N)), some (.int (nI (drN CU (F34 7) (P (i + 2)) k (drIt CU (F34 7) (P (i + 2)) b k)))), some (.int j82_0), some (.int ((nI k) + 1)), o8, o9]) dX4_fit_102 rfl rfl (Nat.le_of_ble_eq_true rfl) rfl rfl ?_
        refine ew_goto (t := 23) dX4_fit_105 rfl ?_
        rw [nI_1]
        rw [show j82_0 = b2i (wmF P CU WA (F34 7) i b (k + 1)) from by rw [hj82_0]; show _ = b2i (if _ then _ else _); rw [← hN1]; cases wmF P CU WA (F34 7) i b k <;> grind [b2i]]
        exact ih (k + 1) (by omega)
      refine ew_if_eq (t := 81) (t2 := 35) dX4_fit_32 rfl rfl (fun c_32 => ?_) (fun c_32 => ?_)
      · refine ew_ic0 (t := 82) dX4_fit_81 rfl ?_
        exact J82 0 (by simp only [if_pos c_32])
      · refine ew_iload (t := 37) dX4_fit_35 rfl rfl ?_
        refine ew_iload (t := 39) dX4_fit_37 rfl rfl ?_
        refine ew_aload_n (t := 40) dX4_fit_39 rfl rfl rfl ?_
        refine ew_get (t := 43) (j := 26) (v := .ref 52) fcX4 m33 (Nat.le_of_ble_eq_true rfl) q1047 rfl dX4_fit_40 rfl ?_
        refine ew_iload_n (t := 44) dX4_fit_43 rfl rfl rfl ?_
        refine ew_ic3 (t := 45) dX4_fit_44 rfl ?_
        refine ew_iadd (t := 46) dX4_fit_45 rfl ?_
        refine ew_iald (t := 47) (j := (i + 3)) (N := 20) m52 (by rw [(show nI i + 3 = nI (i + 3) from nI_add i 3)]; exact vp_in_nI (by omega) (by omega)) (by rw [(show nI i + 3 = nI (i + 3) from nI_add i 3)]; exact nI_clamp (by omega)) dX4_fit_46 rfl ?_
        refine ew_isub (t := 48) dX4_fit_47 rfl ?_
        refine ew_icmp_lt (t := 77) (t2 := 51) dX4_fit_48 rfl rfl (fun c_48 => ?_) (fun c_48 => ?_)
        · refine ew_ic1 (t := 78) dX4_fit_77 rfl ?_
          refine ew_goto (t := 82) dX4_fit_78 rfl ?_
          exact J82 1 (by simp only [if_neg c_32, if_pos c_48])
        · refine ew_aload_n (t := 52) dX4_fit_51 rfl rfl rfl ?_
          refine ew_get (t := 55) (j := 4) (v := .ref 38) fcX4 m33 (Nat.le_of_ble_eq_true rfl) q1025 rfl dX4_fit_52 rfl ?_
          refine ew_bipush (t := 57) (v := 100) dX4_fit_55 (by decide) rfl ?_
          refine ew_iload (t := 59) dX4_fit_57 rfl rfl ?_
          refine ew_ic2 (t := 60) dX4_fit_59 rfl ?_
          refine ew_irem (t := 61) dX4_fit_60 (by decide) rfl ?_
          refine ew_imul (t := 62) dX4_fit_61 rfl ?_
          refine ew_iload (t := 64) dX4_fit_62 rfl rfl ?_
          refine ew_iadd (t := 65) dX4_fit_64 rfl ?_
          refine ew_iald (t := 66) (j := (100 * (k % 2) + (drIt CU (F34 7) (P (i + 2)) b k))) (N := 200) m38 (by rw [ix_100 (by omega)]; exact vp_in_nI (by have := drIt_lt (CU := CU) (wd := F34 7) (hi := P (i + 2)) hb k; omega) (by omega)) (by rw [ix_100 (by omega)]; exact nI_clamp (by have := drIt_lt (CU := CU) (wd := F34 7) (hi := P (i + 2)) hb k; omega)) dX4_fit_65 rfl ?_
          refine ew_aload_n (t := 67) dX4_fit_66 rfl rfl rfl ?_
          refine ew_get (t := 70) (j := 26) (v := .ref 52) fcX4 m33 (Nat.le_of_ble_eq_true rfl) q1047 rfl dX4_fit_67 rfl ?_
          refine ew_iload_n (t := 71) dX4_fit_70 rfl rfl rfl ?_
          refine ew_ic4 (t := 72) dX4_fit_71 rfl ?_
          refine ew_iadd (t := 73) dX4_fit_72 rfl ?_
          refine ew_iald (t := 74) (j := (i + 4)) (N := 20) m52 (by rw [(show nI i + 4 = nI (i + 4) from nI_add i 4)]; exact vp_in_nI (by omega) (by omega)) (by rw [(show nI i + 4 = nI (i + 4) from nI_add i 4)]; exact nI_clamp (by omega)) dX4_fit_73 rfl ?_
          refine ew_icmp_lt (t := 81) (t2 := 77) dX4_fit_74 rfl rfl (fun c_74 => ?_) (fun c_74 => ?_)
          · refine ew_ic0 (t := 82) dX4_fit_81 rfl ?_
            exact J82 0 (by simp only [if_neg c_32, if_neg c_48, if_pos c_74])
          · refine ew_ic1 (t := 78) dX4_fit_77 rfl ?_
            refine ew_goto (t := 82) dX4_fit_78 rfl ?_
            exact J82 1 (by simp only [if_neg c_32, if_neg c_48, if_neg c_74])
set_option maxHeartbeats 4000000 in
theorem am_fit {l : Launch} {G : GW} {h : AH} {n : Nat} {s : Nat → Int32} {al : Int64} {F34 CU WA P : Nat → Int32} (m33 : h 33 = some (MO s al)) (m34 : h 34 = some (IA 8 F34)) (m37 : h 37 = some (IA 200 CU)) (m38 : h 38 = some (IA 200 WA)) (m52 : h 52 = some (IA 20 P)) {q b N : Nat} (hq : q < 4) (hb : b < 100) (hN : N < 100) (hP1 : P (5 * q + 1) = nI N) : AM l G yX4_fit cX4_fit 10 (some .int) 3 0 0 [.ref 33, .int (nI q), .int (nI b)] h n (Qi (fitF P CU WA (F34 7) (5 * q) b) h n) := by
  refine AM.of (L := [some (.ref 33), some (.int (nI q)), some (.int (nI b)), none, none, none, none, none, none, none]) (by decide) (Nat.le_of_ble_eq_true rfl) rfl ?_
  refine ew_ic5 (t := 1) dX4_fit_0 rfl ?_
  refine ew_iload_n (t := 2) dX4_fit_1 rfl rfl rfl ?_
  refine ew_imul (t := 3) dX4_fit_2 rfl ?_
  rw [show (5 : Int32) * nI q = nI (5 * q) from pk_mul 5 q]
  generalize hiq : 5 * q = i at hP1 ⊢
  have hi16 : i < 16 := by omega
  refine ew_istore_n (t := 4) (L' := [some (.ref 33), some (.int (nI q)), some (.int (nI b)), some (.int (nI i)), none, none, none, none, none, none]) dX4_fit_3 rfl (Nat.le_of_ble_eq_true rfl) rfl rfl ?_
  refine ew_aload_n (t := 5) dX4_fit_4 rfl rfl rfl ?_
  refine ew_get (t := 8) (j := 26) (v := .ref 52) fcX4 m33 (Nat.le_of_ble_eq_true rfl) q1047 rfl dX4_fit_5 rfl ?_
  refine ew_iload_n (t := 9) dX4_fit_8 rfl rfl rfl ?_
  refine ew_ic1 (t := 10) dX4_fit_9 rfl ?_
  refine ew_iadd (t := 11) dX4_fit_10 rfl ?_
  refine ew_iald (t := 12) (j := (i + 1)) (N := 20) m52 (by rw [(show nI i + 1 = nI (i + 1) from nI_add i 1)]; exact vp_in_nI (by omega) (by omega)) (by rw [(show nI i + 1 = nI (i + 1) from nI_add i 1)]; exact nI_clamp (by omega)) dX4_fit_11 rfl ?_
  rw [hP1]
  refine ew_istore (t := 14) (L' := [some (.ref 33), some (.int (nI q)), some (.int (nI b)), some (.int (nI i)), some (.int (nI N)), none, none, none, none, none]) dX4_fit_12 (Nat.le_of_ble_eq_true rfl) rfl rfl ?_
  refine ew_iload_n (t := 15) dX4_fit_14 rfl rfl rfl ?_
  refine ew_istore (t := 17) (L' := [some (.ref 33), some (.int (nI q)), some (.int (nI b)), some (.int (nI i)), some (.int (nI N)), some (.int (nI b)), none, none, none, none]) dX4_fit_15 (Nat.le_of_ble_eq_true rfl) rfl rfl ?_
  refine ew_ic1 (t := 18) dX4_fit_17 rfl ?_
  refine ew_istore (t := 20) (L' := [some (.ref 33), some (.int (nI q)), some (.int (nI b)), some (.int (nI i)), some (.int (nI N)), some (.int (nI b)), some (.int 1), none, none, none]) dX4_fit_18 (Nat.le_of_ble_eq_true rfl) rfl rfl ?_
  refine ew_ic0 (t := 21) dX4_fit_20 rfl ?_
  refine ew_istore (t := 23) (L' := [some (.ref 33), some (.int (nI q)), some (.int (nI b)), some (.int (nI i)), some (.int (nI N)), some (.int (nI b)), some (.int 1), some (.int 0), none, none]) dX4_fit_21 (Nat.le_of_ble_eq_true rfl) rfl rfl ?_
  refine lp_fit m33 m34 m37 m38 m52 hi16 hb hN hP1.symm ?_ N 0 (by omega)
  refine ew_iload (t := 110) dX4_fit_108 rfl rfl ?_
  refine ew_bipush (t := 112) (v := 10) dX4_fit_110 (by decide) rfl ?_
  refine ew_idiv (t := 113) dX4_fit_112 (by decide) rfl ?_
  refine ew_aload_n (t := 114) dX4_fit_113 rfl rfl rfl ?_
  refine ew_get (t := 117) (j := 26) (v := .ref 52) fcX4 m33 (Nat.le_of_ble_eq_true rfl) q1047 rfl dX4_fit_114 rfl ?_
  refine ew_iload_n (t := 118) dX4_fit_117 rfl rfl rfl ?_
  refine ew_iald (t := 119) (j := i) (N := 20) m52 (vp_in_nI (by omega) (by omega)) (nI_clamp (by omega)) dX4_fit_118 rfl ?_
  refine ew_bipush (t := 121) (v := 10) dX4_fit_119 (by decide) rfl ?_
  refine ew_idiv (t := 122) dX4_fit_121 (by decide) rfl ?_
  refine ew_isub (t := 123) dX4_fit_122 rfl ?_
  refine ew_istore (t := 125) (L' := [some (.ref 33), some (.int (nI q)), some (.int (nI b)), some (.int (nI i)), some (.int (nI N)), some (.int (nI (drIt CU (F34 7) (P (i + 2)) b N))), some (.int (b2i (wmF P CU WA (F34 7) i b N))), some (.int (((nI (drIt CU (F34 7) (P (i + 2)) b N)) / 10) - ((P i) / 10))), none, none]) dX4_fit_123 (Nat.le_of_ble_eq_true rfl) rfl rfl ?_
  refine ew_iload (t := 127) dX4_fit_125 rfl rfl ?_
  refine ew_bipush (t := 129) (v := 10) dX4_fit_127 (by decide) rfl ?_
  refine ew_irem (t := 130) dX4_fit_129 (by decide) rfl ?_
  refine ew_aload_n (t := 131) dX4_fit_130 rfl rfl rfl ?_
  refine ew_get (t := 134) (j := 26) (v := .ref 52) fcX4 m33 (Nat.le_of_ble_eq_true rfl) q1047 rfl dX4_fit_131 rfl ?_
  refine ew_iload_n (t := 135) dX4_fit_134 rfl rfl rfl ?_
  refine ew_iald (t := 136) (j := i) (N := 20) m52 (vp_in_nI (by omega) (by omega)) (nI_clamp (by omega)) dX4_fit_135 rfl ?_
  refine ew_bipush (t := 138) (v := 10) dX4_fit_136 (by decide) rfl ?_
  refine ew_irem (t := 139) dX4_fit_138 (by decide) rfl ?_
  refine ew_isub (t := 140) dX4_fit_139 rfl ?_
  refine ew_istore (t := 142) (L' := [some (.ref 33), some (.int (nI q)), some (.int (nI b)), some (.int (nI i)), some (.int (nI N)), some (.int (nI (drIt CU (F34 7) (P (i + 2)) b N))), some (.int (b2i (wmF P CU WA (F34 7) i b N))), some (.int (((nI (drIt CU (F34 7) (P (i + 2)) b N)) / 10) - ((P i) / 10))), some (.int (((nI (drIt CU (F34 7) (P (i + 2)) b N)) - (nI (drIt CU (F34 7) (P (i + 2)) b N)) / 10 * 10) - ((P i) - (P i) / 10 * 10))), none]) dX4_fit_140 (Nat.le_of_ble_eq_true rfl) rfl rfl ?_
  refine ew_iload (t := 144) dX4_fit_142 rfl rfl ?_
  refine ew_i2l (t := 145) dX4_fit_144 rfl ?_
  refine ew_ldc2 (t := 148) (v := (-1)) dX4_fit_145 q1173 rfl ?_
  refine ew_lc1 (t := 149) dX4_fit_148 rfl ?_
  refine ew_callS (t := 152) (As := [_, _, _]) (am_in _ _ _) (lw_S q1153 q1154 q60 q1155) naX4_in dX4_fit_149 rfl (Nat.le_of_ble_eq_true rfl) (Nat.le_of_ble_eq_true rfl) (Nat.le_refl _) (Nat.le_refl _) (Nat.le_of_ble_eq_true rfl) rfl (qi ?_)
  refine ew_if_eq (t := 172) (t2 := 155) dX4_fit_152 rfl rfl (fun c_152 => ?_) (fun c_152 => ?_)
  · refine ew_ic0 (t := 173) dX4_fit_172 rfl ?_
    refine ew_istore (t := 175) (L' := [some (.ref 33), some (.int (nI q)), some (.int (nI b)), some (.int (nI i)), some (.int (nI N)), some (.int (nI (drIt CU (F34 7) (P (i + 2)) b N))), some (.int (b2i (wmF P CU WA (F34 7) i b N))), some (.int (((nI (drIt CU (F34 7) (P (i + 2)) b N)) / 10) - ((P i) / 10))), some (.int (((nI (drIt CU (F34 7) (P (i + 2)) b N)) - (nI (drIt CU (F34 7) (P (i + 2)) b N)) / 10 * 10) - ((P i) - (P i) / 10 * 10))), some (.int 0)]) dX4_fit_173 (Nat.le_of_ble_eq_true rfl) rfl rfl ?_
    refine ew_iload (t := 177) dX4_fit_175 rfl rfl ?_
    refine ew_if_eq (t := 185) (t2 := 180) dX4_fit_177 rfl rfl (fun c_177 => ?_) (fun c_177 => ?_)
    · refine ew_ic0 (t := 186) dX4_fit_185 rfl ?_
      refine ew_goto (t := 205) dX4_fit_186 rfl ?_
      exact ew_iret rfl dX4_fit_205 (Nat.le_refl _) (Nat.le_refl _) ⟨congrArg (fun z => some (Value.int z)) (by unfold fitF; rw [hP1, nI_clamp (n := N) (by omega)]; unfold fitI; rw [if_neg (b2i_n c_177)]), rfl, rfl⟩
    · refine ew_iload (t := 182) dX4_fit_180 rfl rfl ?_
      refine ew_if_ne (t := 189) (t2 := 185) dX4_fit_182 rfl rfl (fun c_182 => ?_) (fun c_182 => ?_)
      · exact absurd c_182 (by decide)
      · refine ew_ic0 (t := 186) dX4_fit_185 rfl ?_
        refine ew_goto (t := 205) dX4_fit_186 rfl ?_
        exact ew_iret rfl dX4_fit_205 (Nat.le_refl _) (Nat.le_refl _) ⟨congrArg (fun z => some (Value.int z)) (by unfold fitF; rw [hP1, nI_clamp (n := N) (by omega)]; unfold fitI; rw [if_pos (b2i_1.mp c_177), if_neg (b2i_n c_152)]), rfl, rfl⟩
  · refine ew_iload (t := 157) dX4_fit_155 rfl rfl ?_
    refine ew_i2l (t := 158) dX4_fit_157 rfl ?_
    refine ew_ldc2 (t := 161) (v := (-1)) dX4_fit_158 q1173 rfl ?_
    refine ew_lc1 (t := 162) dX4_fit_161 rfl ?_
    refine ew_callS (t := 165) (As := [_, _, _]) (am_in _ _ _) (lw_S q1153 q1154 q60 q1155) naX4_in dX4_fit_162 rfl (Nat.le_of_ble_eq_true rfl) (Nat.le_of_ble_eq_true rfl) (Nat.le_refl _) (Nat.le_refl _) (Nat.le_of_ble_eq_true rfl) rfl (qi ?_)
    refine ew_if_eq (t := 172) (t2 := 168) dX4_fit_165 rfl rfl (fun c_165 => ?_) (fun c_165 => ?_)
    · refine ew_ic0 (t := 173) dX4_fit_172 rfl ?_
      refine ew_istore (t := 175) (L' := [some (.ref 33), some (.int (nI q)), some (.int (nI b)), some (.int (nI i)), some (.int (nI N)), some (.int (nI (drIt CU (F34 7) (P (i + 2)) b N))), some (.int (b2i (wmF P CU WA (F34 7) i b N))), some (.int (((nI (drIt CU (F34 7) (P (i + 2)) b N)) / 10) - ((P i) / 10))), some (.int (((nI (drIt CU (F34 7) (P (i + 2)) b N)) - (nI (drIt CU (F34 7) (P (i + 2)) b N)) / 10 * 10) - ((P i) - (P i) / 10 * 10))), some (.int 0)]) dX4_fit_173 (Nat.le_of_ble_eq_true rfl) rfl rfl ?_
      refine ew_iload (t := 177) dX4_fit_175 rfl rfl ?_
      refine ew_if_eq (t := 185) (t2 := 180) dX4_fit_177 rfl rfl (fun c_177 => ?_) (fun c_177 => ?_)
      · refine ew_ic0 (t := 186) dX4_fit_185 rfl ?_
        refine ew_goto (t := 205) dX4_fit_186 rfl ?_
        exact ew_iret rfl dX4_fit_205 (Nat.le_refl _) (Nat.le_refl _) ⟨congrArg (fun z => some (Value.int z)) (by unfold fitF; rw [hP1, nI_clamp (n := N) (by omega)]; unfold fitI; rw [if_neg (b2i_n c_177)]), rfl, rfl⟩
      · refine ew_iload (t := 182) dX4_fit_180 rfl rfl ?_
        refine ew_if_ne (t := 189) (t2 := 185) dX4_fit_182 rfl rfl (fun c_182 => ?_) (fun c_182 => ?_)
        · exact absurd c_182 (by decide)
        · refine ew_ic0 (t := 186) dX4_fit_185 rfl ?_
          refine ew_goto (t := 205) dX4_fit_186 rfl ?_
          exact ew_iret rfl dX4_fit_205 (Nat.le_refl _) (Nat.le_refl _) ⟨congrArg (fun z => some (Value.int z)) (by unfold fitF; rw [hP1, nI_clamp (n := N) (by omega)]; unfold fitI; rw [if_pos (b2i_1.mp c_177), if_pos (b2i_1.mp c_152), if_neg (b2i_n c_165)]), rfl, rfl⟩
    · refine ew_ic1 (t := 169) dX4_fit_168 rfl ?_
      refine ew_goto (t := 173) dX4_fit_169 rfl ?_
      refine ew_istore (t := 175) (L' := [some (.ref 33), some (.int (nI q)), some (.int (nI b)), some (.int (nI i)), some (.int (nI N)), some (.int (nI (drIt CU (F34 7) (P (i + 2)) b N))), some (.int (b2i (wmF P CU WA (F34 7) i b N))), some (.int (((nI (drIt CU (F34 7) (P (i + 2)) b N)) / 10) - ((P i) / 10))), some (.int (((nI (drIt CU (F34 7) (P (i + 2)) b N)) - (nI (drIt CU (F34 7) (P (i + 2)) b N)) / 10 * 10) - ((P i) - (P i) / 10 * 10))), some (.int 1)]) dX4_fit_173 (Nat.le_of_ble_eq_true rfl) rfl rfl ?_
      refine ew_iload (t := 177) dX4_fit_175 rfl rfl ?_
      refine ew_if_eq (t := 185) (t2 := 180) dX4_fit_177 rfl rfl (fun c_177 => ?_) (fun c_177 => ?_)
      · refine ew_ic0 (t := 186) dX4_fit_185 rfl ?_
        refine ew_goto (t := 205) dX4_fit_186 rfl ?_
        exact ew_iret rfl dX4_fit_205 (Nat.le_refl _) (Nat.le_refl _) ⟨congrArg (fun z => some (Value.int z)) (by unfold fitF; rw [hP1, nI_clamp (n := N) (by omega)]; unfold fitI; rw [if_neg (b2i_n c_177)]), rfl, rfl⟩
      · refine ew_iload (t := 182) dX4_fit_180 rfl rfl ?_
        refine ew_if_ne (t := 189) (t2 := 185) dX4_fit_182 rfl rfl (fun c_182 => ?_) (fun c_182 => ?_)
        · refine ew_iload (t := 191) dX4_fit_189 rfl rfl ?_
          refine ew_aload_n (t := 192) dX4_fit_191 rfl rfl rfl ?_
          refine ew_get (t := 195) (j := 26) (v := .ref 52) fcX4 m33 (Nat.le_of_ble_eq_true rfl) q1047 rfl dX4_fit_192 rfl ?_
          refine ew_iload_n (t := 196) dX4_fit_195 rfl rfl rfl ?_
          refine ew_iald (t := 197) (j := i) (N := 20) m52 (vp_in_nI (by omega) (by omega)) (nI_clamp (by omega)) dX4_fit_196 rfl ?_
          refine ew_icmp_ne (t := 204) (t2 := 200) dX4_fit_197 rfl rfl (fun c_197 => ?_) (fun c_197 => ?_)
          · refine ew_ic1 (t := 205) dX4_fit_204 rfl ?_
            exact ew_iret rfl dX4_fit_205 (Nat.le_refl _) (Nat.le_refl _) ⟨congrArg (fun z => some (Value.int z)) (by unfold fitF; rw [hP1, nI_clamp (n := N) (by omega)]; unfold fitI; rw [if_pos (b2i_1.mp c_177), if_pos (b2i_1.mp c_152), if_pos (b2i_1.mp c_165), if_pos c_197]), rfl, rfl⟩
          · refine ew_ic4 (t := 201) dX4_fit_200 rfl ?_
            refine ew_goto (t := 205) dX4_fit_201 rfl ?_
            exact ew_iret rfl dX4_fit_205 (Nat.le_refl _) (Nat.le_refl _) ⟨congrArg (fun z => some (Value.int z)) (by unfold fitF; rw [hP1, nI_clamp (n := N) (by omega)]; unfold fitI; rw [if_pos (b2i_1.mp c_177), if_pos (b2i_1.mp c_152), if_pos (b2i_1.mp c_165), if_neg (not_not_intro c_197)]), rfl, rfl⟩
        · exact absurd c_182 (by decide)
