-- Obj fields dict_keys(['cls', 'fun', 'sname', 'refs', 'extra', 'ups'])
/-! the reference: sea, the whole -/
set_option maxRecDepth 100000
def seaE (s : Nat → Int32) (F : Nat → Nat → Int32) (tp b : Nat) (A : Nat × Int32 × Int32 × (Nat → Int32)) : OR := if ¬ A.2.1 = 0 then (-20 - nI A.1, upd s 7 0, F) else if hrC (F 40) tp (hrN (F 40) tp A.1) = 0 then (A.2.2.1, upd s 7 0, va_up F 37 (cpI (F 37) A.2.2.2 b 10)) else (-20 - nI (hrN (F 40) tp A.1), upd s 7 0, F)
def seaP (s : Nat → Int32) (F : Nat → Nat → Int32) (tp : Nat) (se ro : Int32) : OR := if b2i (inL se.toInt64 0 1) = 0 then (-1, s, F) else if ¬ b2i (inL ro.toInt64 0 9) = 0 then seaE s F tp (100 * se.toNatClampNeg + 10 * ro.toNatClampNeg) (seS (F 40) tp (F 43) 10) else (-1, s, F)

set_option maxHeartbeats 4000000 in
theorem lp_sea2 {l : Launch} {G : GW} {h : AH} {n : Nat} {s : Nat → Int32} {al : Int64} {g0 rd : Nat → Int32} {q r : Nat} {nn : Int32} {Q : Option Value → AH → Nat → Prop} (m33 : h 33 = some (MO s al)) (m43 : h 43 = some (IA 10 rd)) (hq2 : q < 2) (hr : r < 10) (hq : Q (some (.int nn)) (hov h [(37, IA 200 (cpI g0 rd (100 * q + 10 * r) 10))]) n) : ∀ (f k : Nat), k + f = 10 → EW l G yX4_sea cX4_sea 5 (some .int) 3 0 0 Q 0 0 (hov h [(37, IA 200 (cpI g0 rd (100 * q + 10 * r) k))]) n 132 [some (.ref 33), some (.int (nI q)), some (.int (nI r)), some (.int nn), some (.int (nI k))] [] := by
  intro f
  induction f with
  | zero =>
    intro k  hk
    refine ew_iload (t := 134) dX4_sea_132 rfl rfl ?_
    refine ew_bipush (t := 136) (v := 10) dX4_sea_134 (by decide) rfl ?_
    refine ew_icmp_ge (t := 169) (t2 := 139) dX4_sea_136 rfl rfl (fun c_136 => ?_) (fun c_136 => ?_)
    · refine ew_iload_n (t := 170) dX4_sea_169 rfl rfl rfl ?_
      exact ew_iret rfl dX4_sea_170 (Nat.le_refl _) (Nat.le_refl _) (by rw [show k = 10 by omega]; exact hq)
    · exact absurd (show (10 : Int32) ≤ nI k by rw [show k = 10 by omega]; decide) c_136
  | succ f ih =>
    intro k  hk
    refine ew_iload (t := 134) dX4_sea_132 rfl rfl ?_
    refine ew_bipush (t := 136) (v := 10) dX4_sea_134 (by decide) rfl ?_
    refine ew_icmp_ge (t := 169) (t2 := 139) dX4_sea_136 rfl rfl (fun c_136 => ?_) (fun c_136 => ?_)
    · exact absurd c_136 (nI_ge (b := 10) (by omega) (by omega))
    · refine ew_aload_n (t := 140) dX4_sea_139 rfl rfl rfl ?_
      refine ew_get (t := 143) (j := 3) (v := .ref 37) fcX4 m33 (Nat.le_of_ble_eq_true rfl) q1024 rfl dX4_sea_140 rfl ?_
      refine ew_bipush (t := 145) (v := 100) dX4_sea_143 (by decide) rfl ?_
      refine ew_iload_n (t := 146) dX4_sea_145 rfl rfl rfl ?_
      refine ew_imul (t := 147) dX4_sea_146 rfl ?_
      refine ew_bipush (t := 149) (v := 10) dX4_sea_147 (by decide) rfl ?_
      refine ew_iload_n (t := 150) dX4_sea_149 rfl rfl rfl ?_
      refine ew_imul (t := 151) dX4_sea_150 rfl ?_
      refine ew_iadd (t := 152) dX4_sea_151 rfl ?_
      refine ew_iload (t := 154) dX4_sea_152 rfl rfl ?_
      refine ew_iadd (t := 155) dX4_sea_154 rfl ?_
      rw [show (100 : Int32) * nI q + 10 * nI r + nI k = nI (100 * q + 10 * r + k) from by rw [show (100 : Int32) = nI 100 from rfl, show (10 : Int32) = nI 10 from rfl, pk_mul, pk_mul, nI_add, nI_add]]
      refine ew_aload_n (t := 156) dX4_sea_155 rfl rfl rfl ?_
      refine ew_get (t := 159) (j := 12) (v := .ref 43) fcX4 m33 (Nat.le_of_ble_eq_true rfl) q1033 rfl dX4_sea_156 rfl ?_
      refine ew_iload (t := 161) dX4_sea_159 rfl rfl ?_
      refine ew_iald (t := 162) (j := k) (N := 10) m43 (vp_in_nI (by omega) (by omega)) (nI_clamp (by omega)) dX4_sea_161 rfl ?_
      refine ew_iast (t := 163) (j := (100 * q + 10 * r + k)) (N := 200) (h' := (hov h [(37, IA 200 (upd (cpI g0 rd (100 * q + 10 * r) k) (100 * q + 10 * r + k) (rd k)))])) rfl (vp_in_nI (by omega) (by omega)) (nI_clamp (by omega)) dX4_sea_162 (hov_up rfl) rfl ?_
      refine ew_iinc (t := 166) (x := (nI k)) (v := ((nI k) + 1)) (L' := [some (.ref 33), some (.int (nI q)), some (.int (nI r)), some (.int nn), some (.int ((nI k) + 1))]) dX4_sea_163 rfl rfl (Nat.le_of_ble_eq_true rfl) rfl rfl ?_
      refine ew_goto (t := 132) dX4_sea_166 rfl ?_
      rw [nI_1]
      exact ih (k + 1) (by omega)
set_option maxHeartbeats 4000000 in
theorem mc_sea {l : Launch} {G : GW} {h : AH} {n : Nat} {s : Nat → Int32} {al : Int64} {F : Nat → Nat → Int32} {FL : Nat → Int64} (mc : MC s al F FL h) {tp : Nat} (h7 : s 7 = nI tp) (htp : tp ≤ 60) (se ro : Int32) : AM l G yX4_sea cX4_sea 5 (some .int) 3 0 0 [.ref 33, .int se, .int ro] h n (OpR h n (seaP s F tp se ro)) := by
  refine AM.of (L := [some (.ref 33), some (.int se), some (.int ro), none, none]) (by decide) (Nat.le_of_ble_eq_true rfl) rfl ?_
  refine ew_iload_n (t := 1) dX4_sea_0 rfl rfl rfl ?_
  refine ew_i2l (t := 2) dX4_sea_1 rfl ?_
  refine ew_lc0 (t := 3) dX4_sea_2 rfl ?_
  refine ew_lc1 (t := 4) dX4_sea_3 rfl ?_
  refine ew_callS (t := 7) (As := [_, _, _]) (am_in _ _ _) (lw_S q1153 q1154 q60 q1155) naX4_in dX4_sea_4 rfl (Nat.le_of_ble_eq_true rfl) (Nat.le_of_ble_eq_true rfl) (Nat.le_refl _) (Nat.le_refl _) (Nat.le_of_ble_eq_true rfl) rfl (qi ?_)
  refine ew_if_eq (t := 22) (t2 := 10) dX4_sea_7 rfl rfl (fun c_7 => ?_) (fun c_7 => ?_)
  · refine ew_icm1 (t := 23) dX4_sea_22 rfl ?_
    exact ew_iret rfl dX4_sea_23 (Nat.le_refl _) (Nat.le_refl _) (by unfold seaP; rw [if_pos c_7]; exact OpR.same mc)
  · refine ew_iload_n (t := 11) dX4_sea_10 rfl rfl rfl ?_
    refine ew_i2l (t := 12) dX4_sea_11 rfl ?_
    refine ew_lc0 (t := 13) dX4_sea_12 rfl ?_
    refine ew_ldc2 (t := 16) (v := 9) dX4_sea_13 q1206 rfl ?_
    refine ew_callS (t := 19) (As := [_, _, _]) (am_in _ _ _) (lw_S q1153 q1154 q60 q1155) naX4_in dX4_sea_16 rfl (Nat.le_of_ble_eq_true rfl) (Nat.le_of_ble_eq_true rfl) (Nat.le_refl _) (Nat.le_refl _) (Nat.le_of_ble_eq_true rfl) rfl (qi ?_)
    refine ew_if_ne (t := 24) (t2 := 22) dX4_sea_19 rfl rfl (fun c_19 => ?_) (fun c_19 => ?_)
    · obtain ⟨q, hq0, hq, rfl⟩ := inI_nat (c := se) (lo := 0) (hi := 1) (by decide) (by decide) ((inL_I se 0 1).symm.trans (b2i_1.mp c_7))
      obtain ⟨r, hr0, hr, rfl⟩ := inI_nat (c := ro) (lo := 0) (hi := 9) (by decide) (by decide) ((inL_I ro 0 9).symm.trans (b2i_1.mp c_19))
      refine ew_aload_n (t := 25) dX4_sea_24 rfl rfl rfl ?_
      refine ew_ic0 (t := 26) dX4_sea_25 rfl ?_
      refine ew_put (t := 29) (j := 8) (fs' := MOf (upd s 8 0) al) (h' := (hov h [(33, OB 4 (MOf (upd s 8 0) al))])) fcX4 mc.1 (Nat.le_of_ble_eq_true rfl) rfl q1029 rfl rfl (Nat.le_of_ble_eq_true rfl) rfl dX4_sea_26 (hov_up0) rfl ?_
      refine ew_aload_n (t := 30) dX4_sea_29 rfl rfl rfl ?_
      refine ew_ic0 (t := 31) dX4_sea_30 rfl ?_
      refine ew_put (t := 34) (j := 9) (fs' := MOf (upd (upd s 8 0) 9 0) al) (h' := (hov h [(33, OB 4 (MOf (upd (upd s 8 0) 9 0) al))])) fcX4 rfl (Nat.le_of_ble_eq_true rfl) rfl q1030 (by decide) (by decide) (Nat.le_of_ble_eq_true rfl) rfl dX4_sea_31 (hov_up rfl) rfl ?_
      refine ew_ic0 (t := 35) dX4_sea_34 rfl ?_
      refine ew_istore_n (t := 36) (L' := [some (.ref 33), some (.int (nI q)), some (.int (nI r)), some (.int 0), none]) dX4_sea_35 rfl (Nat.le_of_ble_eq_true rfl) rfl rfl ?_
      refine ew_ic0 (t := 37) dX4_sea_36 rfl ?_
      refine ew_istore (t := 39) (L' := [some (.ref 33), some (.int (nI q)), some (.int (nI r)), some (.int 0), some (.int 0)]) dX4_sea_37 (Nat.le_of_ble_eq_true rfl) rfl rfl ?_
      refine EW.heap (h' := hov h [(33, MO (upd (upd s 8 0) 9 0) al), (43, IA 10 (F 43))]) (hov_mid (mI mc 43 rfl) (l2 := []) (by intro q hq; cases hq) [(33, MO (upd (upd s 8 0) 9 0) al)]).symm ?_
      refine lp_sea1 (s := s) (T := F 40) (f0 := F 43) (tp := tp) (q := q) (r := r) (mI mc 40 rfl) h7 htp (fun s' hs => ?_) 10 0 (upd (upd s 8 0) 9 0) (by omega) ⟨rfl, rfl, fun j h1 h2 => by rw [pk_un h2, pk_un h1]⟩
      refine ew_aload_n (t := 87) dX4_sea_86 rfl rfl rfl ?_
      refine ew_aload_n (t := 88) dX4_sea_87 rfl rfl rfl ?_
      refine ew_get (t := 91) (j := 9) (v := .int (s' 9)) fcX4 rfl (Nat.le_of_ble_eq_true rfl) q1030 rfl dX4_sea_88 rfl ?_
      rw [hs.2.1]
      refine ew_if_ne (t := 101) (t2 := 94) dX4_sea_91 rfl rfl (fun c_91 => ?_) (fun c_91 => ?_)
      · refine ew_ic1 (t := 102) dX4_sea_101 rfl ?_
        refine ew_goto (t := 106) dX4_sea_102 rfl ?_
        refine ew_put (t := 109) (j := 9) (fs' := MOf (upd s' 9 1) al) (h' := (hov h [(33, OB 4 (MOf (upd s' 9 1) al)), (43, IA 10 ((seS (F 40) tp (F 43) 10).2.2.2))])) fcX4 rfl (Nat.le_of_ble_eq_true rfl) rfl q1030 (by decide) (by decide) (Nat.le_of_ble_eq_true rfl) rfl dX4_sea_106 (hov_up rfl) rfl ?_
        refine ew_aload_n (t := 110) dX4_sea_109 rfl rfl rfl ?_
        refine ew_ic0 (t := 111) dX4_sea_110 rfl ?_
        refine ew_put (t := 114) (j := 7) (fs' := MOf (upd (upd s' 7 0) 9 1) al) (h' := (hov h [(33, OB 4 (MOf (upd (upd s' 7 0) 9 1) al)), (43, IA 10 ((seS (F 40) tp (F 43) 10).2.2.2))])) fcX4 rfl (Nat.le_of_ble_eq_true rfl) rfl q1028 rfl rfl (Nat.le_of_ble_eq_true rfl) rfl dX4_sea_111 (hov_up rfl) rfl ?_
        refine ew_aload_n (t := 115) dX4_sea_114 rfl rfl rfl ?_
        refine ew_get (t := 118) (j := 9) (v := .int 1) fcX4 rfl (Nat.le_of_ble_eq_true rfl) q1030 rfl dX4_sea_115 rfl ?_
        refine ew_if_eq (t := 129) (t2 := 121) dX4_sea_118 rfl rfl (fun c_118 => ?_) (fun c_118 => ?_)
        · exact absurd c_118 (by decide)
        · refine ew_bipush (t := 123) (v := (-20)) dX4_sea_121 (by decide) rfl ?_
          refine ew_aload_n (t := 124) dX4_sea_123 rfl rfl rfl ?_
          refine ew_get (t := 127) (j := 8) (v := .int (s' 8)) fcX4 rfl (Nat.le_of_ble_eq_true rfl) q1029 rfl dX4_sea_124 rfl ?_
          refine ew_isub (t := 128) dX4_sea_127 rfl ?_
          exact ew_iret rfl dX4_sea_128 (Nat.le_refl _) (Nat.le_refl _) (by unfold seaP seaE; rw [if_neg c_7, if_pos c_19, nI_clamp (n := q) (by omega), nI_clamp (n := r) (by omega), if_pos c_91]; exact ⟨rfl, by rw [hs.1], hov_fr 33 63 rfl, _, al, _, FL, MC_33 (MC_I (c := 43) rfl (l := []) mc), fun k hk => va_up_ne _ _ (by intro e; rw [e] at hk; cases hk), rfl, by show s' 25 = s 25; exact hs.2.2 25 (by decide) (by decide), by show s' 27 = s 27; exact hs.2.2 27 (by decide) (by decide), by show s' 37 = s 37; exact hs.2.2 37 (by decide) (by decide)⟩)
      · refine ew_aload_n (t := 95) dX4_sea_94 rfl rfl rfl ?_
        refine ew_callV (t := 98) (As := []) (am_here (h := hov h [(43, IA 10 (seS (F 40) tp (F 43) 10).2.2.2)]) (s := s') (a := (seS (F 40) tp (F 43) 10).1) (mI mc 40 rfl) ((hs.2.2 7 (by decide) (by decide)).trans h7) hs.1 (seS_le htp 10) htp) (fcX4).1 rfl (lw_V q1192 q1194 qs31 q60 q1195) rfl naX4_here dX4_sea_95 rfl (Nat.le_of_ble_eq_true rfl) (Nat.le_of_ble_eq_true rfl) (Nat.le_refl _) (Nat.le_refl _) (Nat.le_of_ble_eq_true rfl) rfl (qi ?_)
        refine EW.heap (h' := hov h [(33, MO (upd s' 8 (nI (hrN (F 40) tp (seS (F 40) tp (F 43) 10).1))) al), (43, IA 10 (seS (F 40) tp (F 43) 10).2.2.2)]) rfl ?_
        refine ew_if_eq (t := 105) (t2 := 101) dX4_sea_98 rfl rfl (fun c_98 => ?_) (fun c_98 => ?_)
        · refine ew_ic0 (t := 106) dX4_sea_105 rfl ?_
          refine ew_put (t := 109) (j := 9) (fs' := MOf (upd (upd s' 8 (nI (hrN (F 40) tp (seS (F 40) tp (F 43) 10).1))) 9 0) al) (h' := (hov h [(33, OB 4 (MOf (upd (upd s' 8 (nI (hrN (F 40) tp (seS (F 40) tp (F 43) 10).1))) 9 0) al)), (43, IA 10 ((seS (F 40) tp (F 43) 10).2.2.2))])) fcX4 rfl (Nat.le_of_ble_eq_true rfl) rfl q1030 (by decide) (by decide) (Nat.le_of_ble_eq_true rfl) rfl dX4_sea_106 (hov_up rfl) rfl ?_
          refine ew_aload_n (t := 110) dX4_sea_109 rfl rfl rfl ?_
          refine ew_ic0 (t := 111) dX4_sea_110 rfl ?_
          refine ew_put (t := 114) (j := 7) (fs' := MOf (upd (upd (upd s' 7 0) 8 (nI (hrN (F 40) tp (seS (F 40) tp (F 43) 10).1))) 9 0) al) (h' := (hov h [(33, OB 4 (MOf (upd (upd (upd s' 7 0) 8 (nI (hrN (F 40) tp (seS (F 40) tp (F 43) 10).1))) 9 0) al)), (43, IA 10 ((seS (F 40) tp (F 43) 10).2.2.2))])) fcX4 rfl (Nat.le_of_ble_eq_true rfl) rfl q1028 rfl rfl (Nat.le_of_ble_eq_true rfl) rfl dX4_sea_111 (hov_up rfl) rfl ?_
          refine ew_aload_n (t := 115) dX4_sea_114 rfl rfl rfl ?_
          refine ew_get (t := 118) (j := 9) (v := .int 0) fcX4 rfl (Nat.le_of_ble_eq_true rfl) q1030 rfl dX4_sea_115 rfl ?_
          refine ew_if_eq (t := 129) (t2 := 121) dX4_sea_118 rfl rfl (fun c_118 => ?_) (fun c_118 => ?_)
          · refine ew_ic0 (t := 130) dX4_sea_129 rfl ?_
            refine ew_istore (t := 132) (L' := [some (.ref 33), some (.int (nI q)), some (.int (nI r)), some (.int ((seS (F 40) tp (F 43) 10).2.2.1)), some (.int 0)]) dX4_sea_130 (Nat.le_of_ble_eq_true rfl) rfl rfl ?_
            refine EW.heap (h' := hov (hov h [(33, OB 4 (MOf (upd (upd (upd s' 7 0) 8 (nI (hrN (F 40) tp (seS (F 40) tp (F 43) 10).1))) 9 0) al)), (43, IA 10 ((seS (F 40) tp (F 43) 10).2.2.2))]) [(37, IA 200 (F 37))]) (hov_same (h := (hov h [(33, OB 4 (MOf (upd (upd (upd s' 7 0) 8 (nI (hrN (F 40) tp (seS (F 40) tp (F 43) 10).1))) 9 0) al)), (43, IA 10 ((seS (F 40) tp (F 43) 10).2.2.2))])) (show (hov h [(33, OB 4 (MOf (upd (upd (upd s' 7 0) 8 (nI (hrN (F 40) tp (seS (F 40) tp (F 43) 10).1))) 9 0) al)), (43, IA 10 ((seS (F 40) tp (F 43) 10).2.2.2))]) 37 = some (IA 200 (F 37)) from mI mc 37 rfl)).symm ?_
            refine lp_sea2 (h := (hov h [(33, OB 4 (MOf (upd (upd (upd s' 7 0) 8 (nI (hrN (F 40) tp (seS (F 40) tp (F 43) 10).1))) 9 0) al)), (43, IA 10 ((seS (F 40) tp (F 43) 10).2.2.2))])) (g0 := F 37) (rd := (seS (F 40) tp (F 43) 10).2.2.2) (q := q) (r := r) rfl rfl (by omega) (by omega) ?_ 10 0 (by omega)
            unfold seaP seaE
            rw [if_neg c_7, if_pos c_19, nI_clamp (n := q) (by omega), nI_clamp (n := r) (by omega), if_neg (not_not_intro c_91), if_pos c_98]
            exact ⟨rfl, rfl, fun k hk => (hov_fr 33 63 rfl k hk).trans (hov_fr 33 63 rfl k hk), _, al, _, FL, MC_I (c := 37) rfl (l := []) (MC_33 (MC_I (c := 43) rfl (l := []) mc)), keep_up (fun k hk => va_up_ne _ _ (by intro e; rw [e] at hk; cases hk)), rfl, by show s' 25 = s 25; exact hs.2.2 25 (by decide) (by decide), by show s' 27 = s 27; exact hs.2.2 27 (by decide) (by decide), by show s' 37 = s 37; exact hs.2.2 37 (by decide) (by decide)⟩
          · exact absurd c_118 (by decide)
        · refine ew_ic1 (t := 102) dX4_sea_101 rfl ?_
          refine ew_goto (t := 106) dX4_sea_102 rfl ?_
          refine ew_put (t := 109) (j := 9) (fs' := MOf (upd (upd s' 8 (nI (hrN (F 40) tp (seS (F 40) tp (F 43) 10).1))) 9 1) al) (h' := (hov h [(33, OB 4 (MOf (upd (upd s' 8 (nI (hrN (F 40) tp (seS (F 40) tp (F 43) 10).1))) 9 1) al)), (43, IA 10 ((seS (F 40) tp (F 43) 10).2.2.2))])) fcX4 rfl (Nat.le_of_ble_eq_true rfl) rfl q1030 (by decide) (by decide) (Nat.le_of_ble_eq_true rfl) rfl dX4_sea_106 (hov_up rfl) rfl ?_
          refine ew_aload_n (t := 110) dX4_sea_109 rfl rfl rfl ?_
          refine ew_ic0 (t := 111) dX4_sea_110 rfl ?_
          refine ew_put (t := 114) (j := 7) (fs' := MOf (upd (upd (upd s' 7 0) 8 (nI (hrN (F 40) tp (seS (F 40) tp (F 43) 10).1))) 9 1) al) (h' := (hov h [(33, OB 4 (MOf (upd (upd (upd s' 7 0) 8 (nI (hrN (F 40) tp (seS (F 40) tp (F 43) 10).1))) 9 1) al)), (43, IA 10 ((seS (F 40) tp (F 43) 10).2.2.2))])) fcX4 rfl (Nat.le_of_ble_eq_true rfl) rfl q1028 rfl rfl (Nat.le_of_ble_eq_true rfl) rfl dX4_sea_111 (hov_up rfl) rfl ?_
          refine ew_aload_n (t := 115) dX4_sea_114 rfl rfl rfl ?_
          refine ew_get (t := 118) (j := 9) (v := .int 1) fcX4 rfl (Nat.le_of_ble_eq_true rfl) q1030 rfl dX4_sea_115 rfl ?_
          refine ew_if_eq (t := 129) (t2 := 121) dX4_sea_118 rfl rfl (fun c_118 => ?_) (fun c_118 => ?_)
          · exact absurd c_118 (by decide)
          · refine ew_bipush (t := 123) (v := (-20)) dX4_sea_121 (by decide) rfl ?_
            refine ew_aload_n (t := 124) dX4_sea_123 rfl rfl rfl ?_
            refine ew_get (t := 127) (j := 8) (v := .int (nI (hrN (F 40) tp (seS (F 40) tp (F 43) 10).1))) fcX4 rfl (Nat.le_of_ble_eq_true rfl) q1029 rfl dX4_sea_124 rfl ?_
            refine ew_isub (t := 128) dX4_sea_127 rfl ?_
            exact ew_iret rfl dX4_sea_128 (Nat.le_refl _) (Nat.le_refl _) (by unfold seaP seaE; rw [if_neg c_7, if_pos c_19, nI_clamp (n := q) (by omega), nI_clamp (n := r) (by omega), if_neg (not_not_intro c_91), if_neg c_98]; exact ⟨rfl, rfl, hov_fr 33 63 rfl, _, al, _, FL, MC_33 (MC_I (c := 43) rfl (l := []) mc), fun k hk => va_up_ne _ _ (by intro e; rw [e] at hk; cases hk), rfl, by show s' 25 = s 25; exact hs.2.2 25 (by decide) (by decide), by show s' 27 = s 27; exact hs.2.2 27 (by decide) (by decide), by show s' 37 = s 37; exact hs.2.2 37 (by decide) (by decide)⟩)
    · refine ew_icm1 (t := 23) dX4_sea_22 rfl ?_
      exact ew_iret rfl dX4_sea_23 (Nat.le_refl _) (Nat.le_refl _) (by unfold seaP; rw [if_neg c_7, if_neg (not_not_intro c_19)]; exact OpR.same mc)
