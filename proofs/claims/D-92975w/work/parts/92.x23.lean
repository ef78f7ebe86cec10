-- Obj fields dict_keys(['cls', 'fun', 'sname', 'refs', 'extra', 'ups'])
/-! the component: count, isAssumption, isDragged -/
set_option maxRecDepth 100000
theorem frX_neg {f : Nat → Int32} {j : Nat} : frX f j < 0 ↔ f j < 0 := by
  unfold frX
  by_cases c : f j < 0
  · rw [if_pos c]; exact ⟨fun _ => c, fun _ => by decide⟩
  · rw [if_neg c]
theorem cnF_s {f : Nat → Int32} {k : Nat} {z : Int32} : z + (if frX f (k + 1) < 0 then 0 else 1) = z + (if 0 ≤ f (k + 1) then 1 else 0) := by
  by_cases c : f (k + 1) < 0
  · rw [if_pos (frX_neg.mpr c), if_neg (Int32.not_le.mpr c)]
  · rw [if_neg (fun q => c (frX_neg.mp q)), if_pos (Int32.not_lt.mp c)]
set_option maxHeartbeats 600000 in
theorem lx_count0 {l : Launch} {G : GW} {h : AH} {n : Nat} {s ce : Nat → Int32} {F : Nat → Nat → Int32} {Q : Option Value → AH → Nat → Prop} (x1 : h 1 = some (XO s)) (xt : XT F h) (hq : Q (some (.int (cnF (F 35) 6))) h n) : ∀ (f k : Nat), k + f = 6 → EW l G yX0_count cX0_count 4 (some .int) 34 2 101 Q 0 0 h n 38 [some (.ref 1), some (.int 0), some (.int (cnF (F 35) k)), some (.int (nI (k + 1)))] [] := by
  intro f
  induction f with
  | zero =>
    intro k  hk
    refine ew_iload_n (t := 39) dX0_count_38 rfl rfl rfl ?_
    refine ew_bipush (t := 41) (v := 6) dX0_count_39 (by decide) rfl ?_
    refine ew_icmp_gt (t := 70) (t2 := 44) dX0_count_41 rfl rfl (fun c_41 => ?_) (fun c_41 => ?_)
    · refine ew_iload_n (t := 71) dX0_count_70 rfl rfl rfl ?_
      exact ew_iret rfl dX0_count_71 (by decide) (by decide) (by rw [show k = 6 by omega]; exact hq)
    · exact absurd (show (6 : Int32) < nI (k + 1) by rw [show k = 6 by omega]; decide) c_41
  | succ f ih =>
    intro k  hk
    refine ew_iload_n (t := 39) dX0_count_38 rfl rfl rfl ?_
    refine ew_bipush (t := 41) (v := 6) dX0_count_39 (by decide) rfl ?_
    refine ew_icmp_gt (t := 70) (t2 := 44) dX0_count_41 rfl rfl (fun c_41 => ?_) (fun c_41 => ?_)
    · exact absurd c_41 (Int32.not_lt.mpr (nI_le (b := 6) (by omega) (by decide)))
    · refine ew_iload_n (t := 45) dX0_count_44 rfl rfl rfl ?_
      refine ew_aload_n (t := 46) dX0_count_45 rfl rfl rfl ?_
      refine ew_get (t := 49) (j := 0) (v := .ref 2) fcX0 x1 (Nat.le_of_ble_eq_true rfl) q255 rfl dX0_count_46 rfl ?_
      refine ew_getN (t := 52) (j := 1) (v := .ref 4) fcX1 xt.1 (Nat.le_of_ble_eq_true rfl) q129 rfl dX0_count_49 rfl ?_
      refine ew_iload_n (t := 53) dX0_count_52 rfl rfl rfl ?_
      refine ew_iald (t := 54) (j := (k + 1)) (N := 7) xt.2.2.1 (vp_in_nI (by omega) (by omega)) (nI_clamp (by omega)) dX0_count_53 rfl ?_
      have J62 : ∀ (j62_0 : Int32), j62_0 = ((if ((frX (F 35)) (k + 1)) < 0 then 0 else 1) : Int32) → EW l G yX0_count cX0_count 4 (some .int) 34 2 101 Q 0 0 h n 62 [some (.ref 1), some (.int 0), some (.int (cnF (F 35) k)), some (.int (nI (k + 1)))] [.int j62_0, .int (cnF (F 35) k)] := by
        intro j62_0 hj62_0
        refine ew_iadd (t := 63) dX0_count_62 rfl ?_
        refine ew_istore_n (t := 64) (L' := [some (.ref 1), some (.int 0), some (.int ((cnF (F 35) k) + j62_0)), some (.int (nI (k + 1)))]) dX0_count_63 rfl (Nat.le_of_ble_eq_true rfl) rfl rfl ?_
        refine ew_iinc (t := 67) (x := (nI (k + 1))) (v := ((nI (k + 1)) + 1)) (L' := [some (.ref 1), some (.int 0), some (.int ((cnF (F 35) k) + j62_0)), some (.int ((nI (k + 1)) + 1))]) dX0_count_64 rfl rfl (Nat.le_of_ble_eq_true rfl) rfl rfl ?_
        refine ew_goto (t := 38) dX0_count_67 rfl ?_
        rw [nI_1]
        rw [show cnF (F 35) k + j62_0 = cnF (F 35) (k + 1) from by rw [hj62_0]; exact cnF_s]
        exact ih (k + 1) (by omega)
      refine ew_if_lt (t := 61) (t2 := 57) dX0_count_54 rfl rfl (fun c_54 => ?_) (fun c_54 => ?_)
      · refine ew_ic0 (t := 62) dX0_count_61 rfl ?_
        exact J62 0 (by simp only [if_pos c_54])
      · refine ew_ic1 (t := 58) dX0_count_57 rfl ?_
        refine ew_goto (t := 62) dX0_count_58 rfl ?_
        exact J62 1 (by simp only [if_neg c_54])
set_option maxHeartbeats 600000 in
theorem lx_count1 {l : Launch} {G : GW} {h : AH} {n : Nat} {s ce : Nat → Int32} {F : Nat → Nat → Int32} {Q : Option Value → AH → Nat → Prop} (x1 : h 1 = some (XO s)) (xt : XT F h) (hq : Q (some (.int (cnT (F 36) 6))) h n) : ∀ (f k : Nat), k + f = 6 → EW l G yX0_count cX0_count 4 (some .int) 34 2 101 Q 0 0 h n 74 [some (.ref 1), some (.int 1), some (.int (cnT (F 36) k)), some (.int (nI (k + 1)))] [] := by
  intro f
  induction f with
  | zero =>
    intro k  hk
    refine ew_iload_n (t := 75) dX0_count_74 rfl rfl rfl ?_
    refine ew_bipush (t := 77) (v := 6) dX0_count_75 (by decide) rfl ?_
    refine ew_icmp_gt (t := 106) (t2 := 80) dX0_count_77 rfl rfl (fun c_77 => ?_) (fun c_77 => ?_)
    · refine ew_iload_n (t := 107) dX0_count_106 rfl rfl rfl ?_
      exact ew_iret rfl dX0_count_107 (by decide) (by decide) (by rw [show k = 6 by omega]; exact hq)
    · exact absurd (show (6 : Int32) < nI (k + 1) by rw [show k = 6 by omega]; decide) c_77
  | succ f ih =>
    intro k  hk
    refine ew_iload_n (t := 75) dX0_count_74 rfl rfl rfl ?_
    refine ew_bipush (t := 77) (v := 6) dX0_count_75 (by decide) rfl ?_
    refine ew_icmp_gt (t := 106) (t2 := 80) dX0_count_77 rfl rfl (fun c_77 => ?_) (fun c_77 => ?_)
    · exact absurd c_77 (Int32.not_lt.mpr (nI_le (b := 6) (by omega) (by decide)))
    · refine ew_iload_n (t := 81) dX0_count_80 rfl rfl rfl ?_
      refine ew_aload_n (t := 82) dX0_count_81 rfl rfl rfl ?_
      refine ew_get (t := 85) (j := 0) (v := .ref 2) fcX0 x1 (Nat.le_of_ble_eq_true rfl) q255 rfl dX0_count_82 rfl ?_
      refine ew_getN (t := 88) (j := 2) (v := .ref 5) fcX1 xt.1 (Nat.le_of_ble_eq_true rfl) q131 rfl dX0_count_85 rfl ?_
      refine ew_iload_n (t := 89) dX0_count_88 rfl rfl rfl ?_
      refine ew_iald (t := 90) (j := (k + 1)) (N := 7) xt.2.2.2.1 (vp_in_nI (by omega) (by omega)) (nI_clamp (by omega)) dX0_count_89 rfl ?_
      have J98 : ∀ (j98_0 : Int32), j98_0 = ((if ((F 36) (k + 1)) ≤ 0 then 0 else 1) : Int32) → EW l G yX0_count cX0_count 4 (some .int) 34 2 101 Q 0 0 h n 98 [some (.ref 1), some (.int 1), some (.int (cnT (F 36) k)), some (.int (nI (k + 1)))] [.int j98_0, .int (cnT (F 36) k)] := by
        intro j98_0 hj98_0
        refine ew_iadd (t := 99) dX0_count_98 rfl ?_
        refine ew_istore_n (t := 100) (L' := [some (.ref 1), some (.int 1), some (.int ((cnT (F 36) k) + j98_0)), some (.int (nI (k + 1)))]) dX0_count_99 rfl (Nat.le_of_ble_eq_true rfl) rfl rfl ?_
        refine ew_iinc (t := 103) (x := (nI (k + 1))) (v := ((nI (k + 1)) + 1)) (L' := [some (.ref 1), some (.int 1), some (.int ((cnT (F 36) k) + j98_0)), some (.int ((nI (k + 1)) + 1))]) dX0_count_100 rfl rfl (Nat.le_of_ble_eq_true rfl) rfl rfl ?_
        refine ew_goto (t := 74) dX0_count_103 rfl ?_
        rw [nI_1]
        rw [show cnT (F 36) k + j98_0 = cnT (F 36) (k + 1) from by rw [hj98_0]; rfl]
        exact ih (k + 1) (by omega)
      refine ew_if_le (t := 97) (t2 := 93) dX0_count_90 rfl rfl (fun c_90 => ?_) (fun c_90 => ?_)
      · refine ew_ic0 (t := 98) dX0_count_97 rfl ?_
        exact J98 0 (by simp only [if_pos c_90])
      · refine ew_ic1 (t := 94) dX0_count_93 rfl ?_
        refine ew_goto (t := 98) dX0_count_94 rfl ?_
        exact J98 1 (by simp only [if_neg c_90])
set_option maxHeartbeats 600000 in
theorem lx_count4 {l : Launch} {G : GW} {h : AH} {n : Nat} {s : Nat → Int32} {FL : Nat → Int64} {SN : Nat → Nat} {Q : Option Value → AH → Nat → Prop} (x1 : h 1 = some (XO s)) (x17 : h 17 = some (JA 100 FL)) (hFL : ∀ j, j < 100 → FL j = lN (SN j)) (hq : Q (some (.int (cnS SN 100))) h n) : ∀ (f k : Nat), k + f = 100 → EW l G yX0_count cX0_count 4 (some .int) 34 2 101 Q 2 101 h n 146 [some (.ref 1), some (.int 4), some (.int (cnS SN k)), some (.int (nI k))] [] := by
  intro f
  induction f with
  | zero =>
    intro k  hk
    refine ew_iload_n (t := 147) dX0_count_146 rfl rfl rfl ?_
    refine ew_bipush (t := 149) (v := 100) dX0_count_147 (by decide) rfl ?_
    refine ew_icmp_ge (t := 177) (t2 := 152) dX0_count_149 rfl rfl (fun c_149 => ?_) (fun c_149 => ?_)
    · refine ew_iload_n (t := 178) dX0_count_177 rfl rfl rfl ?_
      exact ew_iret rfl dX0_count_178 (by decide) (by decide) (by rw [show k = 100 by omega]; exact hq)
    · exact absurd (show (100 : Int32) ≤ nI k by rw [show k = 100 by omega]; decide) c_149
  | succ f ih =>
    intro k  hk
    refine ew_iload_n (t := 147) dX0_count_146 rfl rfl rfl ?_
    refine ew_bipush (t := 149) (v := 100) dX0_count_147 (by decide) rfl ?_
    refine ew_icmp_ge (t := 177) (t2 := 152) dX0_count_149 rfl rfl (fun c_149 => ?_) (fun c_149 => ?_)
    · exact absurd c_149 (nI_ge (b := 100) (by omega) (by omega))
    · refine ew_iload_n (t := 153) dX0_count_152 rfl rfl rfl ?_
      refine ew_aload_n (t := 154) dX0_count_153 rfl rfl rfl ?_
      refine ew_get (t := 157) (j := 16) (v := .ref 17) fcX0 x1 (Nat.le_of_ble_eq_true rfl) q278 rfl dX0_count_154 rfl ?_
      refine ew_iload_n (t := 158) dX0_count_157 rfl rfl rfl ?_
      refine ew_lald (t := 159) (j := k) (N := 100) x17 (vp_in_nI (by omega) (by omega)) (nI_clamp (by omega)) dX0_count_158 rfl ?_
      rw [hFL k (by omega)]
      refine ew_lc0 (t := 160) dX0_count_159 rfl ?_
      have J169 : ∀ (j169_0 : Int32), j169_0 = ((if (lN (SN k)) ≤ 0 then 0 else 1) : Int32) → EW l G yX0_count cX0_count 4 (some .int) 34 2 101 Q 2 101 h n 169 [some (.ref 1), some (.int 4), some (.int (cnS SN k)), some (.int (nI k))] [.int j169_0, .int (cnS SN k)] := by
        intro j169_0 hj169_0
        refine ew_iadd (t := 170) dX0_count_169 rfl ?_
        refine ew_istore_n (t := 171) (L' := [some (.ref 1), some (.int 4), some (.int ((cnS SN k) + j169_0)), some (.int (nI k))]) dX0_count_170 rfl (Nat.le_of_ble_eq_true rfl) rfl rfl ?_
        refine ew_iinc (t := 174) (x := (nI k)) (v := ((nI k) + 1)) (L' := [some (.ref 1), some (.int 4), some (.int ((cnS SN k) + j169_0)), some (.int ((nI k) + 1))]) dX0_count_171 rfl rfl (Nat.le_of_ble_eq_true rfl) rfl rfl ?_
        refine ew_goto (t := 146) dX0_count_174 rfl ?_
        rw [nI_1]
        rw [show cnS SN k + j169_0 = cnS SN (k + 1) from by rw [hj169_0]; rfl]
        exact ih (k + 1) (by omega)
      refine ew_lcmp_le (t1 := 161) (t := 168) (t2 := 164) dX0_count_160 rfl dX0_count_161 rfl rfl (fun c_160 => ?_) (fun c_160 => ?_)
      · refine ew_ic0 (t := 169) dX0_count_168 rfl ?_
        exact J169 0 (by simp only [if_pos c_160])
      · refine ew_ic1 (t := 165) dX0_count_164 rfl ?_
        refine ew_goto (t := 169) dX0_count_165 rfl ?_
        exact J169 1 (by simp only [if_neg c_160])
theorem tb_out {c : Int32} (h : b2i (inL c.toInt64 0 4) = 0) : c.toInt < 0 ∨ 4 < c.toInt := by
  have h2 : ¬ inI c 0 4 = true := fun q => by
    rw [show inL c.toInt64 0 4 = inI c 0 4 from inL_I c 0 4, q] at h
    exact absurd h (by decide)
  rw [inI_iff, Int32.le_iff_toInt_le, Int32.le_iff_toInt_le, show (0 : Int32).toInt = 0 from by decide, show (4 : Int32).toInt = 4 from by decide] at h2
  omega
set_option maxHeartbeats 600000 in
theorem xc_count {l : Launch} {G : GW} {h : AH} {n : Nat} {s ce : Nat → Int32} {F : Nat → Nat → Int32} {a b H T S U g wd np nd : Nat} (hn : 63 ≤ n) (x1 : h 1 = some (XO s)) (x16 : h 16 = some (IA 7 ce)) (sc : scX h) (xr : XR F np nd h n) (wk : WKc F a b H T S U g wd) (ok : OKP F np nd) {EN : Nat → Nat} (hE : ∀ j, j < 100 → waysS H g (allW F 0 0 0 a b H T S U) (fun _ => 0) j = lN (EN j) ∧ EN j < 2 ^ 30) (what : Int32) : AM l G yX0_count cX0_count 4 (some .int) 34 2 101 [.ref 1, .int what] h n (XQ s h n (.int (cntF (F 35) (F 36) np nd (sN F (fun _ => false) false EN np nd) what))) := by
  refine AM.of (L := [some (.ref 1), some (.int what), none, none]) (by decide) (Nat.le_of_ble_eq_true rfl) rfl ?_
  have xt := xr.2.1
  have hnp := xr.2.2.1.1
  have hnd := xr.2.2.2.1
  have hSN : ∀ j, j < 100 → (sN F (fun _ => false) false EN np nd) j < 2 ^ 50 := fun j hj => sN_lt hnp hnd (hE j hj).2
  have hAN : (foS (sN F (fun _ => false) false EN np nd) 100) < 2 ^ 60 := Nat.lt_of_le_of_lt (foS_lt 100 hSN) (by decide)
  refine ew_ic0 (t := 1) dX0_count_0 rfl ?_
  refine ew_istore_n (t := 2) (L' := [some (.ref 1), some (.int what), some (.int 0), none]) dX0_count_1 rfl (Nat.le_of_ble_eq_true rfl) rfl rfl ?_
  refine ew_iload_n (t := 3) dX0_count_2 rfl rfl rfl ?_
  by_cases c_3 : b2i (inL what.toInt64 0 4) = 0
  · refine ew_tableOut (t := 179) dX0_count_3 (tb_out c_3) rfl ?_
    refine ew_icm1 (t := 180) dX0_count_179 rfl ?_
    exact ew_iret rfl dX0_count_180 (by decide) (by decide) (by rw [show cntF (F 35) (F 36) np nd (sN F (fun _ => false) false EN np nd) what = -1 from by unfold cntF; rw [if_pos c_3]]; exact XQ.same x1 sc)
  · obtain ⟨j, hj, rfl⟩ := in4 c_3
    rw [show cntF (F 35) (F 36) np nd (sN F (fun _ => false) false EN np nd) (nI j) = cntJ (F 35) (F 36) np nd (sN F (fun _ => false) false EN np nd) j from by unfold cntF; rw [if_neg c_3, nI_clamp (n := j) (by omega)]]
    clear c_3
    match j, hj with
    | 0, _ =>
      refine ew_tableIn (t := 36) (x := 0) dX0_count_3 (by decide) (by decide) rfl rfl ?_
      refine ew_ic1 (t := 37) dX0_count_36 rfl ?_
      refine ew_istore_n (t := 38) (L' := [some (.ref 1), some (.int 0), some (.int 0), some (.int 1)]) dX0_count_37 rfl (Nat.le_of_ble_eq_true rfl) rfl rfl ?_
      exact lx_count0 (ce := ce) x1 xt (XQ.same x1 sc) 6 0 (by omega)
    | 1, _ =>
      refine ew_tableIn (t := 72) (x := 1) dX0_count_3 (by decide) (by decide) rfl rfl ?_
      refine ew_ic1 (t := 73) dX0_count_72 rfl ?_
      refine ew_istore_n (t := 74) (L' := [some (.ref 1), some (.int 1), some (.int 0), some (.int 1)]) dX0_count_73 rfl (Nat.le_of_ble_eq_true rfl) rfl rfl ?_
      exact lx_count1 (ce := ce) x1 xt (XQ.same x1 sc) 6 0 (by omega)
    | 2, _ =>
      refine ew_tableIn (t := 108) (x := 2) dX0_count_3 (by decide) (by decide) rfl rfl ?_
      obtain ⟨mo, e, xc, hsz⟩ := xr.2.2.1.size
      refine ew_aload_n (t := 109) dX0_count_108 rfl rfl rfl ?_
      refine ew_get (t := 112) (j := 0) (v := .ref 2) fcX0 x1 (Nat.le_of_ble_eq_true rfl) q255 rfl dX0_count_109 rfl ?_
      refine ew_getN (t := 115) (j := 6) (v := .ref 9) fcX1 xt.1 (Nat.le_of_ble_eq_true rfl) q140 rfl dX0_count_112 rfl ?_
      refine ew_callF (t := 120) (As := []) (hsz l G n) (fcJ2).1 xc (lw_F q557 q561 q563 q55 q565) fw_size naI_J2_size dX0_count_115 rfl (Nat.le_of_ble_eq_true rfl) (Nat.le_of_ble_eq_true rfl) (by omega) (by omega) (Nat.le_of_ble_eq_true rfl) rfl (qi ?_)
      exact ew_iret rfl dX0_count_120 (by decide) (by decide) (XQ.same x1 sc)
    | 3, _ =>
      refine ew_tableIn (t := 121) (x := 3) dX0_count_3 (by decide) (by decide) rfl rfl ?_
      obtain ⟨mo, e, xc, hsz⟩ := xr.2.2.2.size
      refine ew_aload_n (t := 122) dX0_count_121 rfl rfl rfl ?_
      refine ew_get (t := 125) (j := 0) (v := .ref 2) fcX0 x1 (Nat.le_of_ble_eq_true rfl) q255 rfl dX0_count_122 rfl ?_
      refine ew_getN (t := 128) (j := 7) (v := .ref 10) fcX1 xt.1 (Nat.le_of_ble_eq_true rfl) q142 rfl dX0_count_125 rfl ?_
      refine ew_callF (t := 133) (As := []) (hsz l G n) (fcJ2).1 xc (lw_F q557 q561 q563 q55 q565) fw_size naI_J2_size dX0_count_128 rfl (Nat.le_of_ble_eq_true rfl) (Nat.le_of_ble_eq_true rfl) (by omega) (by omega) (Nat.le_of_ble_eq_true rfl) rfl (qi ?_)
      exact ew_iret rfl dX0_count_133 (by decide) (by decide) (XQ.same x1 sc)
    | 4, _ =>
      refine ew_tableIn (t := 134) (x := 4) dX0_count_3 (by decide) (by decide) rfl rfl ?_
      refine ew_aload_n (t := 135) dX0_count_134 rfl rfl rfl ?_
      refine ew_icm1 (t := 136) dX0_count_135 rfl ?_
      refine ew_aload_n (t := 137) dX0_count_136 rfl rfl rfl ?_
      refine ew_get (t := 140) (j := 16) (v := .ref 17) fcX0 x1 (Nat.le_of_ble_eq_true rfl) q278 rfl dX0_count_137 rfl ?_
      refine ew_callV (t := 143) (As := [_, _]) (xf_findOdds hn x1 x16 sc xr wk ok FLG_0 (lp := fun _ => false) (ld := false) (fun j hj => lp_0 j (by omega)) ld_0 hE (tc := 17) (Or.inl rfl)) (fcX0).1 x1 (lw_V q734 q736 qs22 q51 q737) rfl naX0_findOdds dX0_count_140 rfl (Nat.le_of_ble_eq_true rfl) (Nat.le_of_ble_eq_true rfl) (by omega) (by omega) (Nat.le_of_ble_eq_true rfl) rfl (fun rr h9 n9 qq => ?_)
      obtain ⟨rfl, qn, qf, ⟨f9, t9, hf9⟩, -, qs, ⟨s9, x9, kp9⟩, xr9⟩ := qq
      subst qn
      refine ew_pop2 (t := 144) dX0_count_143 rfl rfl ?_
      refine ew_ic0 (t := 145) dX0_count_144 rfl ?_
      refine ew_istore_n (t := 146) (L' := [some (.ref 1), some (.int 4), some (.int 0), some (.int 0)]) dX0_count_145 rfl (Nat.le_of_ble_eq_true rfl) rfl rfl ?_
      exact lx_count4 x9 t9 hf9 ⟨rfl, by omega, qf, qs, s9, x9, kp9⟩ 100 0 (by omega)
