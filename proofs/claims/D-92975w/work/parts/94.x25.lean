-- Obj fields dict_keys(['cls', 'fun', 'sname', 'refs', 'extra', 'ups'])
/-! the component: should -/
set_option maxRecDepth 100000
theorem in01 {c : Int32} (h : ¬ b2i (inI c 0 1) = 0) : c = 0 ∨ c = 1 := by
  obtain ⟨j, -, h2, h3⟩ := inI_nat (c := c) (lo := 0) (hi := 1) (by omega) (by omega) (b2i_1.mp h)
  have : j = 0 ∨ j = 1 := by omega
  rcases this with rfl | rfl
  · exact Or.inl h3
  · exact Or.inr h3
set_option maxHeartbeats 600000 in
theorem lx_should {l : Launch} {G : GW} {h : AH} {n : Nat} {s : Nat → Int32} {FL : Nat → Int64} {SN : Nat → Nat} {Q : Option Value → AH → Nat → Prop} (x1 : h 1 = some (XO s)) (x17 : h 17 = some (JA 100 FL)) (hFL : ∀ j, j < 100 → FL j = lN (SN j)) {F : Nat → Nat → Int32} {np nd n2 : Nat} (xr : XR F np nd h n2) (ok : OKP F np nd) {c hi part : Int32} {aa : Int64} {N : Nat} (hN : N < 100) (hh : hi = 0 ∨ hi = 1) (kk : EW l G yX0_should cX0_should 10 (some .long) 34 2 101 Q 2 101 h n 110 [some (.ref 1), some (.int c), some (.int (nI N)), some (.int hi), some (.int part), some (.long aa), none, some (.long (lN (shS SN (F 37) (F 34 7) c hi N 100))), none, some (.int (nI 100))] []) : ∀ (f k : Nat), k + f = 100 → EW l G yX0_should cX0_should 10 (some .long) 34 2 101 Q 2 101 h n 57 [some (.ref 1), some (.int c), some (.int (nI N)), some (.int hi), some (.int part), some (.long aa), none, some (.long (lN (shS SN (F 37) (F 34 7) c hi N k))), none, some (.int (nI k))] [] := by
  intro f
  induction f with
  | zero =>
    intro k  hk
    have xt := xr.2.1
    refine ew_iload (t := 59) dX0_should_57 rfl rfl ?_
    refine ew_bipush (t := 61) (v := 100) dX0_should_59 (by decide) rfl ?_
    refine ew_icmp_ge (t := 110) (t2 := 64) dX0_should_61 rfl rfl (fun c_61 => ?_) (fun c_61 => ?_)
    · rw [show k = 100 by omega]
      exact kk
    · exact absurd (show (100 : Int32) ≤ nI k by rw [show k = 100 by omega]; decide) c_61
  | succ f ih =>
    intro k  hk
    have xt := xr.2.1
    refine ew_iload (t := 59) dX0_should_57 rfl rfl ?_
    refine ew_bipush (t := 61) (v := 100) dX0_should_59 (by decide) rfl ?_
    refine ew_icmp_ge (t := 110) (t2 := 64) dX0_should_61 rfl rfl (fun c_61 => ?_) (fun c_61 => ?_)
    · exact absurd c_61 (nI_ge (b := 100) (by omega) (by omega))
    · refine ew_lload (t := 66) dX0_should_64 rfl rfl ?_
      refine ew_aload_n (t := 67) dX0_should_66 rfl rfl rfl ?_
      refine ew_get (t := 70) (j := 16) (v := .ref 17) fcX0 x1 (Nat.le_of_ble_eq_true rfl) q278 rfl dX0_should_67 rfl ?_
      refine ew_iload (t := 72) dX0_should_70 rfl rfl ?_
      refine ew_lald (t := 73) (j := k) (N := 100) x17 (vp_in_nI (by omega) (by omega)) (nI_clamp (by omega)) dX0_should_72 rfl ?_
      rw [hFL k (by omega)]
      refine ew_lc0 (t := 74) dX0_should_73 rfl ?_
      have J101 : ∀ (j101_0 : Int64), j101_0 = ((if (lN (SN k)) ≤ 0 then 0 else (if ¬ (nI (drIt (F 37) (F 34 7) hi k N)) = c then 0 else (lN (SN k)))) : Int64) → EW l G yX0_should cX0_should 10 (some .long) 34 2 101 Q 2 101 h n 101 [some (.ref 1), some (.int c), some (.int (nI N)), some (.int hi), some (.int part), some (.long aa), none, some (.long (lN (shS SN (F 37) (F 34 7) c hi N k))), none, some (.int (nI k))] [.long j101_0, .long (lN (shS SN (F 37) (F 34 7) c hi N k))] := by
        intro j101_0 hj101_0
        refine ew_ladd (t := 102) dX0_should_101 rfl ?_
        refine ew_lstore (t := 104) (L' := [some (.ref 1), some (.int c), some (.int (nI N)), some (.int hi), some (.int part), some (.long aa), none, some (.long ((lN (shS SN (F 37) (F 34 7) c hi N k)) + j101_0)), none, some (.int (nI k))]) dX0_should_102 (Nat.le_of_ble_eq_true rfl) rfl rfl ?_
        refine ew_iinc (t := 107) (x := (nI k)) (v := ((nI k) + 1)) (L' := [some (.ref 1), some (.int c), some (.int (nI N)), some (.int hi), some (.int part), some (.long aa), none, some (.long ((lN (shS SN (F 37) (F 34 7) c hi N k)) + j101_0)), none, some (.int ((nI k) + 1))]) dX0_should_104 rfl rfl (Nat.le_of_ble_eq_true rfl) rfl rfl ?_
        refine ew_goto (t := 57) dX0_should_107 rfl ?_
        rw [nI_1]
        rw [show (lN (shS SN (F 37) (F 34 7) c hi N k)) + j101_0 = (lN (shS SN (F 37) (F 34 7) c hi N (k + 1))) from by rw [hj101_0, shS, ← lN_add, lite, lite]; rfl]
        exact ih (k + 1) (by omega)
      refine ew_lcmp_le (t1 := 75) (t := 100) (t2 := 78) dX0_should_74 rfl dX0_should_75 rfl rfl (fun c_74 => ?_) (fun c_74 => ?_)
      · refine ew_lc0 (t := 101) dX0_should_100 rfl ?_
        exact J101 0 (by simp only [if_pos c_74])
      · refine ew_aload_n (t := 79) dX0_should_78 rfl rfl rfl ?_
        refine ew_iload (t := 81) dX0_should_79 rfl rfl ?_
        refine ew_iload_n (t := 82) dX0_should_81 rfl rfl rfl ?_
        refine ew_iload_n (t := 83) dX0_should_82 rfl rfl rfl ?_
        refine ew_callV (t := 86) (As := [_, _, _]) (ax_drifted (b := k) (N := N) (hi := hi) x1 xt.1 xt.2.1 xt.2.2.2.2.1 ok.2.2.1 ok.2.2.2 hh (by omega) hN) (fcX0).1 x1 (lw_V q658 q660 qs21 q51 q661) rfl naX0_drifted dX0_should_83 rfl (Nat.le_of_ble_eq_true rfl) (Nat.le_of_ble_eq_true rfl) (by omega) (by omega) (Nat.le_of_ble_eq_true rfl) rfl (qi ?_)
        refine ew_iload_n (t := 87) dX0_should_86 rfl rfl rfl ?_
        refine ew_icmp_ne (t := 100) (t2 := 90) dX0_should_87 rfl rfl (fun c_87 => ?_) (fun c_87 => ?_)
        · refine ew_lc0 (t := 101) dX0_should_100 rfl ?_
          exact J101 0 (by simp only [if_neg c_74, if_pos c_87])
        · refine ew_aload_n (t := 91) dX0_should_90 rfl rfl rfl ?_
          refine ew_get (t := 94) (j := 16) (v := .ref 17) fcX0 x1 (Nat.le_of_ble_eq_true rfl) q278 rfl dX0_should_91 rfl ?_
          refine ew_iload (t := 96) dX0_should_94 rfl rfl ?_
          refine ew_lald (t := 97) (j := k) (N := 100) x17 (vp_in_nI (by omega) (by omega)) (nI_clamp (by omega)) dX0_should_96 rfl ?_
          rw [hFL k (by omega)]
          refine ew_goto (t := 101) dX0_should_97 rfl ?_
          exact J101 (lN (SN k)) (by simp only [if_neg c_74, if_neg (not_not_intro c_87)])
set_option maxHeartbeats 600000 in
theorem xc_should {l : Launch} {G : GW} {h : AH} {n : Nat} {s ce : Nat → Int32} {F : Nat → Nat → Int32} {a b H T S U g wd np nd : Nat} (hn : 63 ≤ n) (x1 : h 1 = some (XO s)) (x16 : h 16 = some (IA 7 ce)) (sc : scX h) (xr : XR F np nd h n) (wk : WKc F a b H T S U g wd) (ok : OKP F np nd) {EN : Nat → Nat} (hE : ∀ j, j < 100 → waysS H g (allW F 0 0 0 a b H T S U) (fun _ => 0) j = lN (EN j) ∧ EN j < 2 ^ 30) (c mo hi part : Int32) : AM l G yX0_should cX0_should 10 (some .long) 34 2 101 [.ref 1, .int c, .int mo, .int hi, .int part] h n (XQ s h n (.long (shF (sN F (fun _ => false) false EN np nd) (foS (sN F (fun _ => false) false EN np nd) 100) (F 37) (F 34 7) c mo hi part))) := by
  refine AM.of (L := [some (.ref 1), some (.int c), some (.int mo), some (.int hi), some (.int part), none, none, none, none, none]) (by decide) (Nat.le_of_ble_eq_true rfl) rfl ?_
  have xt := xr.2.1
  have hnp := xr.2.2.1.1
  have hnd := xr.2.2.2.1
  have hSN : ∀ j, j < 100 → (sN F (fun _ => false) false EN np nd) j < 2 ^ 50 := fun j hj => sN_lt hnp hnd (hE j hj).2
  have hAN : (foS (sN F (fun _ => false) false EN np nd) 100) < 2 ^ 60 := Nat.lt_of_le_of_lt (foS_lt 100 hSN) (by decide)
  refine ew_iload_n (t := 1) dX0_should_0 rfl rfl rfl ?_
  refine ew_callS (t := 4) (As := [_]) (ax_isCell  _) (lw_S q333 q334 q51 q335) naX0_isCell dX0_should_1 rfl (Nat.le_of_ble_eq_true rfl) (Nat.le_of_ble_eq_true rfl) (by omega) (by omega) (Nat.le_of_ble_eq_true rfl) rfl (qi ?_)
  refine ew_if_eq (t := 36) (t2 := 7) dX0_should_4 rfl rfl (fun c_4 => ?_) (fun c_4 => ?_)
  · refine ew_ldc2 (t := 39) (v := (-1)) dX0_should_36 q733 rfl ?_
    exact ew_lret rfl dX0_should_39 (by decide) (by decide) (by rw [show shF (sN F (fun _ => false) false EN np nd) (foS (sN F (fun _ => false) false EN np nd) 100) (F 37) (F 34 7) c mo hi part = -1 from by unfold shF; rw [if_pos c_4]]; exact XQ.same x1 sc)
  · refine ew_iload_n (t := 8) dX0_should_7 rfl rfl rfl ?_
    refine ew_ic0 (t := 9) dX0_should_8 rfl ?_
    refine ew_bipush (t := 11) (v := 24) dX0_should_9 (by decide) rfl ?_
    refine ew_callS (t := 14) (As := [_, _, _]) (ax_isIn _ _ _) (lw_S q330 q331 q51 q332) naX0_isIn dX0_should_11 rfl (Nat.le_of_ble_eq_true rfl) (Nat.le_of_ble_eq_true rfl) (by omega) (by omega) (Nat.le_of_ble_eq_true rfl) rfl (qi ?_)
    refine ew_if_eq (t := 36) (t2 := 17) dX0_should_14 rfl rfl (fun c_14 => ?_) (fun c_14 => ?_)
    · refine ew_ldc2 (t := 39) (v := (-1)) dX0_should_36 q733 rfl ?_
      exact ew_lret rfl dX0_should_39 (by decide) (by decide) (by rw [show shF (sN F (fun _ => false) false EN np nd) (foS (sN F (fun _ => false) false EN np nd) 100) (F 37) (F 34 7) c mo hi part = -1 from by unfold shF; rw [if_neg c_4, show inL mo.toInt64 0 24 = inI mo 0 24 from inL_I mo 0 24, if_pos c_14]]; exact XQ.same x1 sc)
    · refine ew_iload_n (t := 18) dX0_should_17 rfl rfl rfl ?_
      refine ew_ic0 (t := 19) dX0_should_18 rfl ?_
      refine ew_ic1 (t := 20) dX0_should_19 rfl ?_
      refine ew_callS (t := 23) (As := [_, _, _]) (ax_isIn _ _ _) (lw_S q330 q331 q51 q332) naX0_isIn dX0_should_20 rfl (Nat.le_of_ble_eq_true rfl) (Nat.le_of_ble_eq_true rfl) (by omega) (by omega) (Nat.le_of_ble_eq_true rfl) rfl (qi ?_)
      refine ew_if_eq (t := 36) (t2 := 26) dX0_should_23 rfl rfl (fun c_23 => ?_) (fun c_23 => ?_)
      · refine ew_ldc2 (t := 39) (v := (-1)) dX0_should_36 q733 rfl ?_
        exact ew_lret rfl dX0_should_39 (by decide) (by decide) (by rw [show shF (sN F (fun _ => false) false EN np nd) (foS (sN F (fun _ => false) false EN np nd) 100) (F 37) (F 34 7) c mo hi part = -1 from by unfold shF; rw [if_neg c_4, show inL mo.toInt64 0 24 = inI mo 0 24 from inL_I mo 0 24, if_neg c_14, show inL hi.toInt64 0 1 = inI hi 0 1 from inL_I hi 0 1, if_pos c_23]]; exact XQ.same x1 sc)
      · refine ew_iload (t := 28) dX0_should_26 rfl rfl ?_
        refine ew_ic0 (t := 29) dX0_should_28 rfl ?_
        refine ew_ic1 (t := 30) dX0_should_29 rfl ?_
        refine ew_callS (t := 33) (As := [_, _, _]) (ax_isIn _ _ _) (lw_S q330 q331 q51 q332) naX0_isIn dX0_should_30 rfl (Nat.le_of_ble_eq_true rfl) (Nat.le_of_ble_eq_true rfl) (by omega) (by omega) (Nat.le_of_ble_eq_true rfl) rfl (qi ?_)
        refine ew_if_ne (t := 40) (t2 := 36) dX0_should_33 rfl rfl (fun c_33 => ?_) (fun c_33 => ?_)
        · have c_14' : ¬ b2i (inL mo.toInt64 0 24) = 0 := by rw [show inL mo.toInt64 0 24 = inI mo 0 24 from inL_I mo 0 24]; exact c_14
          obtain ⟨N, hN, rfl⟩ := inL24 c_14'
          refine ew_aload_n (t := 41) dX0_should_40 rfl rfl rfl ?_
          refine ew_icm1 (t := 42) dX0_should_41 rfl ?_
          refine ew_aload_n (t := 43) dX0_should_42 rfl rfl rfl ?_
          refine ew_get (t := 46) (j := 16) (v := .ref 17) fcX0 x1 (Nat.le_of_ble_eq_true rfl) q278 rfl dX0_should_43 rfl ?_
          refine ew_callV (t := 49) (As := [_, _]) (xf_findOdds hn x1 x16 sc xr wk ok FLG_0 (lp := fun _ => false) (ld := false) (fun j hj => lp_0 j (by omega)) ld_0 hE (tc := 17) (Or.inl rfl)) (fcX0).1 x1 (lw_V q734 q736 qs22 q51 q737) rfl naX0_findOdds dX0_should_46 rfl (Nat.le_of_ble_eq_true rfl) (Nat.le_of_ble_eq_true rfl) (by omega) (by omega) (Nat.le_of_ble_eq_true rfl) rfl (fun rr h9 n9 qq => ?_)
          obtain ⟨rfl, qn, qf, ⟨f9, t9, hf9⟩, -, qs, ⟨s9, x9, kp9⟩, xr9⟩ := qq
          subst qn
          refine ew_lstore (t := 51) (L' := [some (.ref 1), some (.int c), some (.int (nI N)), some (.int hi), some (.int part), some (.long (lN (foS (sN F (fun _ => false) false EN np nd) 100))), none, none, none, none]) dX0_should_49 (Nat.le_of_ble_eq_true rfl) rfl rfl ?_
          refine ew_lc0 (t := 52) dX0_should_51 rfl ?_
          refine ew_lstore (t := 54) (L' := [some (.ref 1), some (.int c), some (.int (nI N)), some (.int hi), some (.int part), some (.long (lN (foS (sN F (fun _ => false) false EN np nd) 100))), none, some (.long 0), none, none]) dX0_should_52 (Nat.le_of_ble_eq_true rfl) rfl rfl ?_
          refine ew_ic0 (t := 55) dX0_should_54 rfl ?_
          refine ew_istore (t := 57) (L' := [some (.ref 1), some (.int c), some (.int (nI N)), some (.int hi), some (.int part), some (.long (lN (foS (sN F (fun _ => false) false EN np nd) 100))), none, some (.long 0), none, some (.int 0)]) dX0_should_55 (Nat.le_of_ble_eq_true rfl) rfl rfl ?_
          refine lx_should (SN := (sN F (fun _ => false) false EN np nd)) x9 t9 hf9 xr9 ok hN (in01 c_23) ?_ 100 0 (by omega)
          have hlt := shS_lt (SN := (sN F (fun _ => false) false EN np nd)) (CU := F 37) (wd := F 34 7) (c := c) (hi := hi) (N := N) hSN 100 (by omega)
          refine ew_lload (t := 112) dX0_should_110 rfl rfl ?_
          refine ew_lc0 (t := 113) dX0_should_112 rfl ?_
          refine ew_lcmp_ne (t1 := 114) (t := 123) (t2 := 117) dX0_should_113 rfl dX0_should_114 rfl rfl (fun c_113 => ?_) (fun c_113 => ?_)
          · refine ew_lload (t := 125) dX0_should_123 rfl rfl ?_
            refine ew_lload (t := 127) dX0_should_125 rfl rfl ?_
            refine ew_iload (t := 129) dX0_should_127 rfl rfl ?_
            have hA0 : 0 < (foS (sN F (fun _ => false) false EN np nd) 100) := Nat.pos_of_ne_zero (fun e => c_113 (by rw [e]; rfl))
            refine ew_callS (t := 132) (As := [_, _, _]) (ax_part (h := h9) hA0 (by omega) (by omega)) (lw_S q754 q755 q51 q756) naX0_part dX0_should_129 rfl (Nat.le_of_ble_eq_true rfl) (Nat.le_of_ble_eq_true rfl) (by omega) (by omega) (Nat.le_of_ble_eq_true rfl) rfl (ql ?_)
            exact ew_lret rfl dX0_should_132 (by decide) (by decide) ⟨by rw [show shF (sN F (fun _ => false) false EN np nd) (foS (sN F (fun _ => false) false EN np nd) 100) (F 37) (F 34 7) c (nI N) hi part = lowF (shS (sN F (fun _ => false) false EN np nd) (F 37) (F 34 7) c hi N 100) (foS (sN F (fun _ => false) false EN np nd) 100) part from by unfold shF; rw [if_neg c_4, if_neg c_14', show inL hi.toInt64 0 1 = inI hi 0 1 from inL_I hi 0 1, if_neg c_23, show inL part.toInt64 0 1 = inI part 0 1 from inL_I part 0 1, if_pos c_33, if_pos c_113, nI_clamp (n := N) (by omega)]], by omega, qf, qs, s9, x9, kp9⟩
          · refine ew_ldc2 (t := 120) (v := (-4)) dX0_should_117 q753 rfl ?_
            refine ew_goto (t := 132) dX0_should_120 rfl ?_
            exact ew_lret rfl dX0_should_132 (by decide) (by decide) ⟨by rw [show shF (sN F (fun _ => false) false EN np nd) (foS (sN F (fun _ => false) false EN np nd) 100) (F 37) (F 34 7) c (nI N) hi part = -4 from by unfold shF; rw [if_neg c_4, if_neg c_14', show inL hi.toInt64 0 1 = inI hi 0 1 from inL_I hi 0 1, if_neg c_23, show inL part.toInt64 0 1 = inI part 0 1 from inL_I part 0 1, if_pos c_33, if_neg (not_not_intro c_113)]], by omega, qf, qs, s9, x9, kp9⟩
        · refine ew_ldc2 (t := 39) (v := (-1)) dX0_should_36 q733 rfl ?_
          exact ew_lret rfl dX0_should_39 (by decide) (by decide) (by rw [show shF (sN F (fun _ => false) false EN np nd) (foS (sN F (fun _ => false) false EN np nd) 100) (F 37) (F 34 7) c mo hi part = -1 from by unfold shF; rw [if_neg c_4, show inL mo.toInt64 0 24 = inI mo 0 24 from inL_I mo 0 24, if_neg c_14, show inL hi.toInt64 0 1 = inI hi 0 1 from inL_I hi 0 1, if_neg c_23, show inL part.toInt64 0 1 = inI part 0 1 from inL_I part 0 1, if_neg (not_not_intro c_33)]]; exact XQ.same x1 sc)
