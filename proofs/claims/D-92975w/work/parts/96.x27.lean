-- Obj fields dict_keys(['cls', 'fun', 'sname', 'refs', 'extra', 'ups'])
/-! the component: movesBy, moves, most -/
set_option maxRecDepth 100000
/-- sums without the assumption c -/
def swX (F : Nat → Nat → Int32) (EC1 : Int32 → Nat → Nat) (np nd : Nat) (c : Int32) : Nat → Nat := sN F (fun j => decide (c = 8 + nI j)) (decide (c = 12)) (EC1 c) np nd
def awX (F : Nat → Nat → Int32) (EC1 : Int32 → Nat → Nat) (np nd : Nat) (c : Int32) : Nat := foS (swX F EC1 np nd c) 100
def MVQ (F : Nat → Nat → Int32) (np nd : Nat) (s : Nat → Int32) (h : AH) (n : Nat) (ans : Int32) : Option Value → AH → Nat → Prop := fun r h' n' => r = some (.int ans) ∧ n' = n + 1 + 1 ∧ frC h h' n ∧ h' 17 = h 17 ∧ scX h' ∧ (∃ s', h' 1 = some (XO s') ∧ kpS s s') ∧ XR F np nd h' n'
theorem asm_13 {sp c : Int32} (h : ¬ asmI sp c = 0) : ∃ j, j < 13 ∧ c = nI j := asm_in (fun q => h (asm_0 q))
theorem asm_nar {sp c : Int32} : narrow .boolean (.int (asmI sp c)) = .int (asmI sp c) := by
  have : asmI sp c = 0 ∨ asmI sp c = 1 := by
    unfold asmI
    exact or_ite (Or.inl rfl) (or_ite (Or.inr rfl) (or_ite (Or.inr rfl) (or_ite (Or.inl rfl) (Or.inr rfl))))
  rcases this with e | e <;> rw [e] <;> decide
theorem kpS.trans {s s' s2 : Nat → Int32} (h1 : kpS s s') (h2 : kpS s' s2) : kpS s s2 := ⟨h2.1.trans h1.1, h2.2.trans h1.2⟩
theorem frC.trans {h h1 h2 : AH} {n n1 : Nat} (q1 : frC h h1 n) (q2 : frC h1 h2 n1) (hn : n ≤ n1) : frC h h2 n := fun k hk hs => (q2 k (by omega) hs).trans (q1 k hk hs)
theorem mx_x {x v : Int32} : (if x < v then v else x) = if v ≤ x then x else v := by
  by_cases e : v ≤ x
  · rw [if_pos e, if_neg (Int32.not_lt.mpr e)]
  · rw [if_neg e, if_pos (Int32.not_le.mp e)]
set_option maxHeartbeats 600000 in
theorem lx_movesBy {l : Launch} {G : GW} {h : AH} {n : Nat} {s : Nat → Int32} {FL GL : Nat → Int64} {S0 S1 : Nat → Nat} {A0 A1 : Nat} {c : Int32} {Q : Option Value → AH → Nat → Prop} (x1 : h 1 = some (XO s)) (x17 : h 17 = some (JA 100 FL)) (x18 : h 18 = some (JA 100 GL)) (hFL : ∀ j, j < 100 → FL j = lN (S0 j)) (hGL : ∀ j, j < 100 → GL j = lN (S1 j)) (h0 : 0 < A0) (h1 : 0 < A1) (b0 : A0 < 2 ^ 63) (b1 : A1 < 2 ^ 63) (hS0 : ∀ j, j < 100 → S0 j ≤ A0 ∧ S0 j < 2 ^ 50) (hS1 : ∀ j, j < 100 → S1 j ≤ A1 ∧ S1 j < 2 ^ 50) (hq : Q (some (.int (nI (mvN S0 A0 S1 A1 100)))) h n) : ∀ (f k : Nat), k + f = 100 → EW l G yX0_movesBy cX0_movesBy 9 (some .int) 34 2 101 Q 2 101 h n 45 [some (.ref 1), some (.int c), some (.long (lN A0)), none, some (.long (lN A1)), none, some (.long (lN (mvN S0 A0 S1 A1 k))), none, some (.int (nI k))] [] := by
  intro f
  induction f with
  | zero =>
    intro k  hk
    have n0 : ¬ lN A0 = 0 := fun e => by have := (pk_lEQ (b := 0) b0 (by omega)).mp e; omega
    have n1 : ¬ lN A1 = 0 := fun e => by have := (pk_lEQ (b := 0) b1 (by omega)).mp e; omega
    refine ew_iload (t := 47) dX0_movesBy_45 rfl rfl ?_
    refine ew_bipush (t := 49) (v := 100) dX0_movesBy_47 (by decide) rfl ?_
    refine ew_icmp_ge (t := 94) (t2 := 52) dX0_movesBy_49 rfl rfl (fun c_49 => ?_) (fun c_49 => ?_)
    · refine ew_lload (t := 96) dX0_movesBy_94 rfl rfl ?_
      refine ew_l2i (t := 97) dX0_movesBy_96 rfl ?_
      exact ew_iret rfl dX0_movesBy_97 (by decide) (by decide) (by rw [show k = 100 by omega, lN_i]; exact hq)
    · exact absurd (show (100 : Int32) ≤ nI k by rw [show k = 100 by omega]; decide) c_49
  | succ f ih =>
    intro k  hk
    have hk0 := hS0 k (by omega)
    have hk1 := hS1 k (by omega)
    have n0 : ¬ lN A0 = 0 := fun e => by have := (pk_lEQ (b := 0) b0 (by omega)).mp e; omega
    have n1 : ¬ lN A1 = 0 := fun e => by have := (pk_lEQ (b := 0) b1 (by omega)).mp e; omega
    refine ew_iload (t := 47) dX0_movesBy_45 rfl rfl ?_
    refine ew_bipush (t := 49) (v := 100) dX0_movesBy_47 (by decide) rfl ?_
    refine ew_icmp_ge (t := 94) (t2 := 52) dX0_movesBy_49 rfl rfl (fun c_49 => ?_) (fun c_49 => ?_)
    · exact absurd c_49 (nI_ge (b := 100) (by omega) (by omega))
    · refine ew_lload (t := 54) dX0_movesBy_52 rfl rfl ?_
      refine ew_aload_n (t := 55) dX0_movesBy_54 rfl rfl rfl ?_
      refine ew_get (t := 58) (j := 16) (v := .ref 17) fcX0 x1 (Nat.le_of_ble_eq_true rfl) q278 rfl dX0_movesBy_55 rfl ?_
      refine ew_iload (t := 60) dX0_movesBy_58 rfl rfl ?_
      refine ew_lald (t := 61) (j := k) (N := 100) x17 (vp_in_nI (by omega) (by omega)) (nI_clamp (by omega)) dX0_movesBy_60 rfl ?_
      rw [hFL k (by omega)]
      refine ew_ldc2 (t := 64) (v := 1000) dX0_movesBy_61 q777 rfl ?_
      refine ew_lmul (t := 65) dX0_movesBy_64 rfl ?_
      rw [show lN (S0 k) * 1000 = lN (S0 k * 1000) from lN_mul _ 1000]
      refine ew_lload_n (t := 66) dX0_movesBy_65 rfl rfl rfl ?_
      refine ew_ldiv (t := 67) dX0_movesBy_66 n0 rfl ?_
      rw [pk_lDiv (by omega) h0 b0]
      refine ew_aload_n (t := 68) dX0_movesBy_67 rfl rfl rfl ?_
      refine ew_get (t := 71) (j := 17) (v := .ref 18) fcX0 x1 (Nat.le_of_ble_eq_true rfl) q279 rfl dX0_movesBy_68 rfl ?_
      refine ew_iload (t := 73) dX0_movesBy_71 rfl rfl ?_
      refine ew_lald (t := 74) (j := k) (N := 100) x18 (vp_in_nI (by omega) (by omega)) (nI_clamp (by omega)) dX0_movesBy_73 rfl ?_
      rw [hGL k (by omega)]
      refine ew_ldc2 (t := 77) (v := 1000) dX0_movesBy_74 q777 rfl ?_
      refine ew_lmul (t := 78) dX0_movesBy_77 rfl ?_
      rw [show lN (S1 k) * 1000 = lN (S1 k * 1000) from lN_mul _ 1000]
      refine ew_lload (t := 80) dX0_movesBy_78 rfl rfl ?_
      refine ew_ldiv (t := 81) dX0_movesBy_80 n1 rfl ?_
      rw [pk_lDiv (by omega) h1 b1]
      refine ew_lsub (t := 82) dX0_movesBy_81 rfl ?_
      refine ew_mabsL (t := 85) q778 q779 q62 q780 dX0_movesBy_82 (Nat.le_of_ble_eq_true rfl) (by omega) (by omega) (Nat.le_of_ble_eq_true rfl) rfl ?_
      rw [mv_abs (th_le hk0.1 h0) (th_le hk1.1 h1)]
      refine ew_ladd (t := 86) dX0_movesBy_85 rfl ?_
      rw [show (lN (mvN S0 A0 S1 A1 k)) + lN ((S0 k * 1000 / A0 - S1 k * 1000 / A1) + (S1 k * 1000 / A1 - S0 k * 1000 / A0)) = (lN (mvN S0 A0 S1 A1 (k + 1))) from lN_add _ _]
      refine ew_lstore (t := 88) (L' := [some (.ref 1), some (.int c), some (.long (lN A0)), none, some (.long (lN A1)), none, some (.long (lN (mvN S0 A0 S1 A1 (k + 1)))), none, some (.int (nI k))]) dX0_movesBy_86 (Nat.le_of_ble_eq_true rfl) rfl rfl ?_
      refine ew_iinc (t := 91) (x := (nI k)) (v := ((nI k) + 1)) (L' := [some (.ref 1), some (.int c), some (.long (lN A0)), none, some (.long (lN A1)), none, some (.long (lN (mvN S0 A0 S1 A1 (k + 1)))), none, some (.int ((nI k) + 1))]) dX0_movesBy_88 rfl rfl (Nat.le_of_ble_eq_true rfl) rfl rfl ?_
      refine ew_goto (t := 45) dX0_movesBy_91 rfl ?_
      rw [nI_1]
      exact ih (k + 1) (by omega)
set_option maxHeartbeats 600000 in
theorem xf_movesBy {l : Launch} {G : GW} {h : AH} {n : Nat} {s ce : Nat → Int32} {F : Nat → Nat → Int32} {a b H T S U g wd np nd : Nat} (hn : 63 ≤ n) (x1 : h 1 = some (XO s)) (x16 : h 16 = some (IA 7 ce)) (sc : scX h) (xr : XR F np nd h n) (wk : WKc F a b H T S U g wd) (ok : OKP F np nd) {EC1 : Int32 → Nat → Nat} (hW : ∀ (c : Int32) (j : Nat), j < 100 → waysS H g (allW F (fR c) (fT c) (fF c) a b H T S U) (fun _ => 0) j = lN (EC1 c j) ∧ EC1 c j < 2 ^ 30) {FL : Nat → Int64} {S0 : Nat → Nat} {A0 : Nat} (x17 : h 17 = some (JA 100 FL)) (hFL : ∀ j, j < 100 → FL j = lN (S0 j)) (hS0 : ∀ j, j < 100 → S0 j ≤ A0 ∧ S0 j < 2 ^ 50) (b0 : A0 < 2 ^ 63) {c : Nat} (hc : c < 13) : AM l G yX0_movesBy cX0_movesBy 9 (some .int) 34 2 101 [.ref 1, .int (nI c), .long (lN A0)] h n (MVQ F np nd s h n (mvF S0 A0 (swX F EC1 np nd (nI c)) (awX F EC1 np nd (nI c)))) := by
  refine AM.of (L := [some (.ref 1), some (.int (nI c)), some (.long (lN A0)), none, none, none, none, none, none]) (by decide) (Nat.le_of_ble_eq_true rfl) rfl ?_
  have xt := xr.2.1
  refine ew_aload_n (t := 1) dX0_movesBy_0 rfl rfl rfl ?_
  refine ew_iload_n (t := 2) dX0_movesBy_1 rfl rfl rfl ?_
  refine ew_aload_n (t := 3) dX0_movesBy_2 rfl rfl rfl ?_
  refine ew_get (t := 6) (j := 17) (v := .ref 18) fcX0 x1 (Nat.le_of_ble_eq_true rfl) q279 rfl dX0_movesBy_3 rfl ?_
  refine ew_callV (t := 9) (As := [_, _]) (xf_findOdds hn x1 x16 sc xr wk ok (FLG_c c hc) (lp := fun j => decide (nI c = 8 + nI j)) (ld := decide (nI c = 12)) (fun j hj => rfl) rfl (hW (nI c)) (tc := 18) (Or.inr rfl)) (fcX0).1 x1 (lw_V q734 q736 qs22 q51 q737) rfl naX0_findOdds dX0_movesBy_6 rfl (Nat.le_of_ble_eq_true rfl) (Nat.le_of_ble_eq_true rfl) (by omega) (by omega) (Nat.le_of_ble_eq_true rfl) rfl (fun rr h9 n9 qq => ?_)
  obtain ⟨rfl, qn, qf, ⟨f9, t9, hf9⟩, q17, qs, ⟨s9, x9, kp9⟩, xr9⟩ := qq
  subst qn
  replace q17 : h9 17 = h 17 := q17
  replace hf9 : ∀ j, j < 100 → f9 j = lN ((swX F EC1 np nd (nI c)) j) := hf9
  have hnp := xr.2.2.1.1
  have hnd := xr.2.2.2.1
  have hS1 : ∀ j, j < 100 → (swX F EC1 np nd (nI c)) j ≤ (awX F EC1 np nd (nI c)) ∧ (swX F EC1 np nd (nI c)) j < 2 ^ 50 := fun j hj => ⟨foS_le 100 hj, sN_lt hnp hnd (hW (nI c) j hj).2⟩
  have b1 : (awX F EC1 np nd (nI c)) < 2 ^ 63 := Nat.lt_of_le_of_lt (foS_lt 100 (fun j hj => (hS1 j hj).2)) (by decide)
  rw [show lN (foS (sN F (fun j => decide (nI c = 8 + nI j)) (decide (nI c = 12)) (EC1 (nI c)) np nd) 100) = lN (awX F EC1 np nd (nI c)) from rfl]
  refine ew_lstore (t := 11) (L' := [some (.ref 1), some (.int (nI c)), some (.long (lN A0)), none, some (.long (lN (awX F EC1 np nd (nI c)))), none, none, none, none]) dX0_movesBy_9 (Nat.le_of_ble_eq_true rfl) rfl rfl ?_
  refine ew_lload_n (t := 12) dX0_movesBy_11 rfl rfl rfl ?_
  refine ew_lc0 (t := 13) dX0_movesBy_12 rfl ?_
  refine ew_lcmp_eq (t1 := 14) (t := 24) (t2 := 17) dX0_movesBy_13 rfl dX0_movesBy_14 rfl rfl (fun c_13 => ?_) (fun c_13 => ?_)
  · refine ew_lload_n (t := 25) dX0_movesBy_24 rfl rfl rfl ?_
    refine ew_lload (t := 27) dX0_movesBy_25 rfl rfl ?_
    refine ew_lcmp_ne (t1 := 28) (t := 35) (t2 := 31) dX0_movesBy_27 rfl dX0_movesBy_28 rfl rfl (fun c_27 => ?_) (fun c_27 => ?_)
    · refine ew_sipush (t := 38) (v := 1000) dX0_movesBy_35 (by decide) rfl ?_
      exact ew_iret rfl dX0_movesBy_38 (by decide) (by decide) ⟨by rw [mvF_0 b0 b1 (Or.inl ((pk_lEQ (b := 0) b0 (by omega)).mp c_13)), if_pos c_27], rfl, qf, q17, qs, ⟨s9, x9, kp9⟩, xr9⟩
    · refine ew_ic0 (t := 32) dX0_movesBy_31 rfl ?_
      refine ew_goto (t := 38) dX0_movesBy_32 rfl ?_
      exact ew_iret rfl dX0_movesBy_38 (by decide) (by decide) ⟨by rw [mvF_0 b0 b1 (Or.inl ((pk_lEQ (b := 0) b0 (by omega)).mp c_13)), if_neg (not_not_intro c_27)], rfl, qf, q17, qs, ⟨s9, x9, kp9⟩, xr9⟩
  · refine ew_lload (t := 19) dX0_movesBy_17 rfl rfl ?_
    refine ew_lc0 (t := 20) dX0_movesBy_19 rfl ?_
    refine ew_lcmp_ne (t1 := 21) (t := 39) (t2 := 24) dX0_movesBy_20 rfl dX0_movesBy_21 rfl rfl (fun c_20 => ?_) (fun c_20 => ?_)
    · refine ew_lc0 (t := 40) dX0_movesBy_39 rfl ?_
      refine ew_lstore (t := 42) (L' := [some (.ref 1), some (.int (nI c)), some (.long (lN A0)), none, some (.long (lN (awX F EC1 np nd (nI c)))), none, some (.long 0), none, none]) dX0_movesBy_40 (Nat.le_of_ble_eq_true rfl) rfl rfl ?_
      refine ew_ic0 (t := 43) dX0_movesBy_42 rfl ?_
      refine ew_istore (t := 45) (L' := [some (.ref 1), some (.int (nI c)), some (.long (lN A0)), none, some (.long (lN (awX F EC1 np nd (nI c)))), none, some (.long 0), none, some (.int 0)]) dX0_movesBy_43 (Nat.le_of_ble_eq_true rfl) rfl rfl ?_
      have h0 : 0 < A0 := Nat.pos_of_ne_zero (fun e => c_13 (by rw [e]; rfl))
      have h1 : 0 < (awX F EC1 np nd (nI c)) := Nat.pos_of_ne_zero (fun e => c_20 (by rw [e]; rfl))
      exact lx_movesBy (S0 := S0) (S1 := (swX F EC1 np nd (nI c))) x9 (q17.trans x17) t9 hFL hf9 h0 h1 b0 b1 hS0 hS1 ⟨by rw [mvF_n h0 h1 b0 b1 (fun j hj => ⟨(hS0 j hj).1, (hS1 j hj).1⟩)], rfl, qf, q17, qs, ⟨s9, x9, kp9⟩, xr9⟩ 100 0 (by omega)
    · refine ew_lload_n (t := 25) dX0_movesBy_24 rfl rfl rfl ?_
      refine ew_lload (t := 27) dX0_movesBy_25 rfl rfl ?_
      refine ew_lcmp_ne (t1 := 28) (t := 35) (t2 := 31) dX0_movesBy_27 rfl dX0_movesBy_28 rfl rfl (fun c_27 => ?_) (fun c_27 => ?_)
      · refine ew_sipush (t := 38) (v := 1000) dX0_movesBy_35 (by decide) rfl ?_
        exact ew_iret rfl dX0_movesBy_38 (by decide) (by decide) ⟨by rw [mvF_0 b0 b1 (Or.inr ((pk_lEQ (b := 0) b1 (by omega)).mp c_20)), if_pos c_27], rfl, qf, q17, qs, ⟨s9, x9, kp9⟩, xr9⟩
      · refine ew_ic0 (t := 32) dX0_movesBy_31 rfl ?_
        refine ew_goto (t := 38) dX0_movesBy_32 rfl ?_
        exact ew_iret rfl dX0_movesBy_38 (by decide) (by decide) ⟨by rw [mvF_0 b0 b1 (Or.inr ((pk_lEQ (b := 0) b1 (by omega)).mp c_20)), if_neg (not_not_intro c_27)], rfl, qf, q17, qs, ⟨s9, x9, kp9⟩, xr9⟩
set_option maxHeartbeats 600000 in
theorem xc_moves {l : Launch} {G : GW} {h : AH} {n : Nat} {s ce : Nat → Int32} {F : Nat → Nat → Int32} {a b H T S U g wd np nd : Nat} (hn : 63 ≤ n) (x1 : h 1 = some (XO s)) (x16 : h 16 = some (IA 7 ce)) (sc : scX h) (xr : XR F np nd h n) (wk : WKc F a b H T S U g wd) (ok : OKP F np nd) {EC1 : Int32 → Nat → Nat} (hW : ∀ (c : Int32) (j : Nat), j < 100 → waysS H g (allW F (fR c) (fT c) (fF c) a b H T S U) (fun _ => 0) j = lN (EC1 c j) ∧ EC1 c j < 2 ^ 30) {EN : Nat → Nat} (hE : ∀ j, j < 100 → waysS H g (allW F 0 0 0 a b H T S U) (fun _ => 0) j = lN (EN j) ∧ EN j < 2 ^ 30) (c : Int32) : AM l G yX0_moves cX0_moves 2 (some .int) 35 4 202 [.ref 1, .int c] h n (XQ s h n (.int (vlF (nI np) (sN F (fun _ => false) false EN np nd) (foS (sN F (fun _ => false) false EN np nd) 100) (swX F EC1 np nd) (awX F EC1 np nd) c))) := by
  refine AM.of (L := [some (.ref 1), some (.int c)]) (by decide) (Nat.le_of_ble_eq_true rfl) rfl ?_
  have xt := xr.2.1
  have hnp := xr.2.2.1.1
  have hnd := xr.2.2.2.1
  have hSN : ∀ j, j < 100 → (sN F (fun _ => false) false EN np nd) j < 2 ^ 50 := fun j hj => sN_lt hnp hnd (hE j hj).2
  have hAN : (foS (sN F (fun _ => false) false EN np nd) 100) < 2 ^ 60 := Nat.lt_of_le_of_lt (foS_lt 100 hSN) (by decide)
  have hS0 : ∀ j, j < 100 → (sN F (fun _ => false) false EN np nd) j ≤ (foS (sN F (fun _ => false) false EN np nd) 100) ∧ (sN F (fun _ => false) false EN np nd) j < 2 ^ 50 := fun j hj => ⟨foS_le 100 hj, hSN j hj⟩
  refine ew_aload_n (t := 1) dX0_moves_0 rfl rfl rfl ?_
  refine ew_iload_n (t := 2) dX0_moves_1 rfl rfl rfl ?_
  refine ew_callV (t := 5) (As := [_]) (ax_isAssumption x1 xr c) (fcX0).1 x1 (lw_V q769 q771 qs23 q51 q772) rfl naX0_isAssumption dX0_moves_2 rfl (Nat.le_of_ble_eq_true rfl) (Nat.le_of_ble_eq_true rfl) (by omega) (by omega) (Nat.le_of_ble_eq_true rfl) rfl (qi ?_)
  refine ew_if_eq (t := 25) (t2 := 8) dX0_moves_5 rfl rfl (fun c_5 => ?_) (fun c_5 => ?_)
  · refine ew_icm1 (t := 26) dX0_moves_25 rfl ?_
    exact ew_iret rfl dX0_moves_26 (by decide) (by decide) (by rw [show vlF (nI np) (sN F (fun _ => false) false EN np nd) (foS (sN F (fun _ => false) false EN np nd) 100) (swX F EC1 np nd) (awX F EC1 np nd) c = -1 from if_pos c_5]; exact XQ.same x1 sc)
  · obtain ⟨j, hj, rfl⟩ := asm_13 c_5
    refine ew_aload_n (t := 9) dX0_moves_8 rfl rfl rfl ?_
    refine ew_iload_n (t := 10) dX0_moves_9 rfl rfl rfl ?_
    refine ew_aload_n (t := 11) dX0_moves_10 rfl rfl rfl ?_
    refine ew_icm1 (t := 12) dX0_moves_11 rfl ?_
    refine ew_aload_n (t := 13) dX0_moves_12 rfl rfl rfl ?_
    refine ew_get (t := 16) (j := 16) (v := .ref 17) fcX0 x1 (Nat.le_of_ble_eq_true rfl) q278 rfl dX0_moves_13 rfl ?_
    refine ew_callV (t := 19) (As := [_, _]) (xf_findOdds hn x1 x16 sc xr wk ok FLG_0 (lp := fun _ => false) (ld := false) (fun j hj => lp_0 j (by omega)) ld_0 hE (tc := 17) (Or.inl rfl)) (fcX0).1 x1 (lw_V q734 q736 qs22 q51 q737) rfl naX0_findOdds dX0_moves_16 rfl (Nat.le_of_ble_eq_true rfl) (Nat.le_of_ble_eq_true rfl) (by omega) (by omega) (Nat.le_of_ble_eq_true rfl) rfl (fun rr h9 n9 qq => ?_)
    obtain ⟨rfl, qn, qf, ⟨f9, t9, hf9⟩, -, qs, ⟨s9, x9, kp9⟩, xr9⟩ := qq
    subst qn
    obtain ⟨ce9, y16⟩ := qs.2.2.2.1
    refine ew_callV (t := 22) (As := [_, _]) (xf_movesBy (by omega) x9 y16 qs xr9 wk ok hW t9 hf9 hS0 (by omega) hj) (fcX0).1 x9 (lw_V q773 q775 qs24 q51 q776) rfl naX0_movesBy dX0_moves_19 rfl (Nat.le_of_ble_eq_true rfl) (Nat.le_of_ble_eq_true rfl) (by omega) (by omega) (Nat.le_of_ble_eq_true rfl) rfl (fun rr h8 n8 qq => ?_)
    obtain ⟨rfl, qn, qf8, q17, qs8, ⟨s8, x8, kp8⟩, xr8⟩ := qq
    subst qn
    refine ew_goto (t := 26) dX0_moves_22 rfl ?_
    exact ew_iret rfl dX0_moves_26 (by decide) (by decide) ⟨by rw [show vlF (nI np) (sN F (fun _ => false) false EN np nd) (foS (sN F (fun _ => false) false EN np nd) 100) (swX F EC1 np nd) (awX F EC1 np nd) (nI j) = _ from if_neg c_5], by omega, qf.trans qf8 (by omega), qs8, s8, x8, kp9.trans kp8⟩
set_option maxHeartbeats 600000 in
theorem lx_most {l : Launch} {G : GW} {h : AH} {n : Nat} {s : Nat → Int32} {F : Nat → Nat → Int32} {a b H T S U g wd np nd : Nat} (hn : 63 ≤ n) (wk : WKc F a b H T S U g wd) (ok : OKP F np nd) {EC1 : Int32 → Nat → Nat} (hW : ∀ (c : Int32) (j : Nat), j < 100 → waysS H g (allW F (fR c) (fT c) (fF c) a b H T S U) (fun _ => 0) j = lN (EC1 c j) ∧ EC1 c j < 2 ^ 30) {EN : Nat → Nat} (hE : ∀ j, j < 100 → waysS H g (allW F 0 0 0 a b H T S U) (fun _ => 0) j = lN (EN j) ∧ EN j < 2 ^ 30) (hS0 : ∀ j, j < 100 → (sN F (fun _ => false) false EN np nd) j ≤ (foS (sN F (fun _ => false) false EN np nd) 100) ∧ (sN F (fun _ => false) false EN np nd) j < 2 ^ 50) (hAN : (foS (sN F (fun _ => false) false EN np nd) 100) < 2 ^ 60) : ∀ (f k : Nat) (h1 : AH) (n1 kq sq : Nat) (o6 : Option Value), k + f = 13 → (n ≤ n1 ∧ frC h h1 n ∧ scX h1 ∧ (∃ FL, h1 17 = some (JA 100 FL) ∧ ∀ j, j < 100 → FL j = lN ((sN F (fun _ => false) false EN np nd) j)) ∧ (∃ s1, h1 1 = some (XO s1) ∧ kpS s s1) ∧ XR F np nd h1 n1 ∧ kq ≤ 2 + 2 * k ∧ sq ≤ 101 + 101 * k) → EW l G yX0_most cX0_most 7 (some .int) 35 28 1414 (XQ s h n (.int (msI (nI np) (sN F (fun _ => false) false EN np nd) (foS (sN F (fun _ => false) false EN np nd) 100) (swX F EC1 np nd) (awX F EC1 np nd) 13))) kq sq h1 n1 18 [some (.ref 1), some (.long (lN (foS (sN F (fun _ => false) false EN np nd) 100))), none, some (.int (msI (nI np) (sN F (fun _ => false) false EN np nd) (foS (sN F (fun _ => false) false EN np nd) 100) (swX F EC1 np nd) (awX F EC1 np nd) k)), some (.int (msV (nI np) (sN F (fun _ => false) false EN np nd) (foS (sN F (fun _ => false) false EN np nd) 100) (swX F EC1 np nd) (awX F EC1 np nd) k)), some (.int (nI k)), o6] [] := by
  intro f
  induction f with
  | zero =>
    intro k h1 n1 kq sq o6 hk hm
    obtain ⟨hn1, fr1, qs1, q17, ⟨s1, y1, kp1⟩, xr1, hkq, hsq⟩ := hm
    refine ew_iload (t := 20) dX0_most_18 rfl rfl ?_
    refine ew_bipush (t := 22) (v := 13) dX0_most_20 (by decide) rfl ?_
    refine ew_icmp_ge (t := 76) (t2 := 25) dX0_most_22 rfl rfl (fun c_22 => ?_) (fun c_22 => ?_)
    · refine ew_iload_n (t := 77) dX0_most_76 rfl rfl rfl ?_
      exact ew_iret rfl dX0_most_77 (by omega) (by omega) ⟨by rw [show k = 13 by omega], hn1, fr1, qs1, s1, y1, kp1⟩
    · exact absurd (show (13 : Int32) ≤ nI k by rw [show k = 13 by omega]; decide) c_22
  | succ f ih =>
    intro k h1 n1 kq sq o6 hk hm
    obtain ⟨hn1, fr1, qs1, q17, ⟨s1, y1, kp1⟩, xr1, hkq, hsq⟩ := hm
    refine ew_iload (t := 20) dX0_most_18 rfl rfl ?_
    refine ew_bipush (t := 22) (v := 13) dX0_most_20 (by decide) rfl ?_
    refine ew_icmp_ge (t := 76) (t2 := 25) dX0_most_22 rfl rfl (fun c_22 => ?_) (fun c_22 => ?_)
    · exact absurd c_22 (nI_ge (b := 13) (by omega) (by omega))
    · refine ew_aload_n (t := 26) dX0_most_25 rfl rfl rfl ?_
      refine ew_iload (t := 28) dX0_most_26 rfl rfl ?_
      refine ew_callV (t := 31) (As := [_]) (ax_isAssumption y1 xr1 (nI k)) (fcX0).1 y1 (lw_V q769 q771 qs23 q51 q772) rfl naX0_isAssumption dX0_most_28 rfl (Nat.le_of_ble_eq_true rfl) (Nat.le_of_ble_eq_true rfl) (by omega) (by omega) (Nat.le_of_ble_eq_true rfl) rfl (qi ?_)
      refine ew_if_eq (t := 44) (t2 := 34) dX0_most_31 rfl rfl (fun c_31 => ?_) (fun c_31 => ?_)
      · refine ew_icm1 (t := 45) dX0_most_44 rfl ?_
        refine ew_istore (t := 47) (L' := [some (.ref 1), some (.long (lN (foS (sN F (fun _ => false) false EN np nd) 100))), none, some (.int (msI (nI np) (sN F (fun _ => false) false EN np nd) (foS (sN F (fun _ => false) false EN np nd) 100) (swX F EC1 np nd) (awX F EC1 np nd) k)), some (.int (msV (nI np) (sN F (fun _ => false) false EN np nd) (foS (sN F (fun _ => false) false EN np nd) 100) (swX F EC1 np nd) (awX F EC1 np nd) k)), some (.int (nI k)), some (.int (-1))]) dX0_most_45 (Nat.le_of_ble_eq_true rfl) rfl rfl ?_
        refine ew_iload (t := 49) dX0_most_47 rfl rfl ?_
        refine ew_iload (t := 51) dX0_most_49 rfl rfl ?_
        have J60 : ∀ (j60_0 : Int32), j60_0 = ((if (-1) ≤ (msV (nI np) (sN F (fun _ => false) false EN np nd) (foS (sN F (fun _ => false) false EN np nd) 100) (swX F EC1 np nd) (awX F EC1 np nd) k) then (msI (nI np) (sN F (fun _ => false) false EN np nd) (foS (sN F (fun _ => false) false EN np nd) 100) (swX F EC1 np nd) (awX F EC1 np nd) k) else (nI k)) : Int32) → EW l G yX0_most cX0_most 7 (some .int) 35 28 1414 (XQ s h n (.int (msI (nI np) (sN F (fun _ => false) false EN np nd) (foS (sN F (fun _ => false) false EN np nd) 100) (swX F EC1 np nd) (awX F EC1 np nd) 13))) kq sq h1 n1 60 [some (.ref 1), some (.long (lN (foS (sN F (fun _ => false) false EN np nd) 100))), none, some (.int (msI (nI np) (sN F (fun _ => false) false EN np nd) (foS (sN F (fun _ => false) false EN np nd) 100) (swX F EC1 np nd) (awX F EC1 np nd) k)), some (.int (msV (nI np) (sN F (fun _ => false) false EN np nd) (foS (sN F (fun _ => false) false EN np nd) 100) (swX F EC1 np nd) (awX F EC1 np nd) k)), some (.int (nI k)), some (.int (-1))] [.int j60_0] := by
          intro j60_0 hj60_0
          refine ew_istore_n (t := 61) (L' := [some (.ref 1), some (.long (lN (foS (sN F (fun _ => false) false EN np nd) 100))), none, some (.int j60_0), some (.int (msV (nI np) (sN F (fun _ => false) false EN np nd) (foS (sN F (fun _ => false) false EN np nd) 100) (swX F EC1 np nd) (awX F EC1 np nd) k)), some (.int (nI k)), some (.int (-1))]) dX0_most_60 rfl (Nat.le_of_ble_eq_true rfl) rfl rfl ?_
          refine ew_iload (t := 63) dX0_most_61 rfl rfl ?_
          refine ew_iload (t := 65) dX0_most_63 rfl rfl ?_
          refine ew_mmax (t := 68) q785 q613 q62 q614 dX0_most_65 (Nat.le_of_ble_eq_true rfl) (by omega) (by omega) (Nat.le_of_ble_eq_true rfl) rfl ?_
          refine ew_istore (t := 70) (L' := [some (.ref 1), some (.long (lN (foS (sN F (fun _ => false) false EN np nd) 100))), none, some (.int j60_0), some (.int (if (msV (nI np) (sN F (fun _ => false) false EN np nd) (foS (sN F (fun _ => false) false EN np nd) 100) (swX F EC1 np nd) (awX F EC1 np nd) k) < (-1) then (-1) else (msV (nI np) (sN F (fun _ => false) false EN np nd) (foS (sN F (fun _ => false) false EN np nd) 100) (swX F EC1 np nd) (awX F EC1 np nd) k))), some (.int (nI k)), some (.int (-1))]) dX0_most_68 (Nat.le_of_ble_eq_true rfl) rfl rfl ?_
          refine ew_iinc (t := 73) (x := (nI k)) (v := ((nI k) + 1)) (L' := [some (.ref 1), some (.long (lN (foS (sN F (fun _ => false) false EN np nd) 100))), none, some (.int j60_0), some (.int (if (msV (nI np) (sN F (fun _ => false) false EN np nd) (foS (sN F (fun _ => false) false EN np nd) 100) (swX F EC1 np nd) (awX F EC1 np nd) k) < (-1) then (-1) else (msV (nI np) (sN F (fun _ => false) false EN np nd) (foS (sN F (fun _ => false) false EN np nd) 100) (swX F EC1 np nd) (awX F EC1 np nd) k))), some (.int ((nI k) + 1)), some (.int (-1))]) dX0_most_70 rfl rfl (Nat.le_of_ble_eq_true rfl) rfl rfl ?_
          refine ew_goto (t := 18) dX0_most_73 rfl ?_
          rw [nI_1]
          have ev : vlF (nI np) (sN F (fun _ => false) false EN np nd) (foS (sN F (fun _ => false) false EN np nd) 100) (swX F EC1 np nd) (awX F EC1 np nd) (nI k) = -1 := if_pos c_31
          rw [show j60_0 = msI (nI np) (sN F (fun _ => false) false EN np nd) (foS (sN F (fun _ => false) false EN np nd) 100) (swX F EC1 np nd) (awX F EC1 np nd) (k + 1) from by rw [hj60_0, msI, ev], show (if msV (nI np) (sN F (fun _ => false) false EN np nd) (foS (sN F (fun _ => false) false EN np nd) 100) (swX F EC1 np nd) (awX F EC1 np nd) k < -1 then -1 else msV (nI np) (sN F (fun _ => false) false EN np nd) (foS (sN F (fun _ => false) false EN np nd) 100) (swX F EC1 np nd) (awX F EC1 np nd) k) = msV (nI np) (sN F (fun _ => false) false EN np nd) (foS (sN F (fun _ => false) false EN np nd) 100) (swX F EC1 np nd) (awX F EC1 np nd) (k + 1) from by rw [mx_x, msV, ev]]
          exact ih (k + 1) h1 n1 kq sq _ (by omega) ⟨hn1, fr1, qs1, q17, ⟨s1, y1, kp1⟩, xr1, by omega, by omega⟩
        refine ew_icmp_le (t := 59) (t2 := 54) dX0_most_51 rfl rfl (fun c_51 => ?_) (fun c_51 => ?_)
        · refine ew_iload_n (t := 60) dX0_most_59 rfl rfl rfl ?_
          exact J60 (msI (nI np) (sN F (fun _ => false) false EN np nd) (foS (sN F (fun _ => false) false EN np nd) 100) (swX F EC1 np nd) (awX F EC1 np nd) k) (by simp only [if_pos c_51])
        · refine ew_iload (t := 56) dX0_most_54 rfl rfl ?_
          refine ew_goto (t := 60) dX0_most_56 rfl ?_
          exact J60 (nI k) (by simp only [if_neg c_51])
      · refine ew_aload_n (t := 35) dX0_most_34 rfl rfl rfl ?_
        refine ew_iload (t := 37) dX0_most_35 rfl rfl ?_
        refine ew_lload_n (t := 38) dX0_most_37 rfl rfl rfl ?_
        obtain ⟨j, hj, ej⟩ := asm_13 c_31
        obtain ⟨ce9, y16⟩ := qs1.2.2.2.1
        obtain ⟨FL, y17, hFL⟩ := q17
        refine ew_callV (t := 41) (As := [_, _]) (xf_movesBy (c := k) (by omega) y1 y16 qs1 xr1 wk ok hW y17 hFL hS0 (by omega) (by omega)) (fcX0).1 y1 (lw_V q773 q775 qs24 q51 q776) rfl naX0_movesBy dX0_most_38 rfl (Nat.le_of_ble_eq_true rfl) (Nat.le_of_ble_eq_true rfl) (by omega) (by omega) (Nat.le_of_ble_eq_true rfl) rfl (fun rr h8 n8 qq => ?_)
        obtain ⟨rfl, qn, qf8, q17', qs8, ⟨s8, x8, kp8⟩, xr8⟩ := qq
        subst qn
        refine ew_goto (t := 45) dX0_most_41 rfl ?_
        refine ew_istore (t := 47) (L' := [some (.ref 1), some (.long (lN (foS (sN F (fun _ => false) false EN np nd) 100))), none, some (.int (msI (nI np) (sN F (fun _ => false) false EN np nd) (foS (sN F (fun _ => false) false EN np nd) 100) (swX F EC1 np nd) (awX F EC1 np nd) k)), some (.int (msV (nI np) (sN F (fun _ => false) false EN np nd) (foS (sN F (fun _ => false) false EN np nd) 100) (swX F EC1 np nd) (awX F EC1 np nd) k)), some (.int (nI k)), some (.int (mvF (sN F (fun _ => false) false EN np nd) (foS (sN F (fun _ => false) false EN np nd) 100) ((swX F EC1 np nd) (nI k)) ((awX F EC1 np nd) (nI k))))]) dX0_most_45 (Nat.le_of_ble_eq_true rfl) rfl rfl ?_
        refine ew_iload (t := 49) dX0_most_47 rfl rfl ?_
        refine ew_iload (t := 51) dX0_most_49 rfl rfl ?_
        have J60 : ∀ (j60_0 : Int32), j60_0 = ((if (mvF (sN F (fun _ => false) false EN np nd) (foS (sN F (fun _ => false) false EN np nd) 100) ((swX F EC1 np nd) (nI k)) ((awX F EC1 np nd) (nI k))) ≤ (msV (nI np) (sN F (fun _ => false) false EN np nd) (foS (sN F (fun _ => false) false EN np nd) 100) (swX F EC1 np nd) (awX F EC1 np nd) k) then (msI (nI np) (sN F (fun _ => false) false EN np nd) (foS (sN F (fun _ => false) false EN np nd) 100) (swX F EC1 np nd) (awX F EC1 np nd) k) else (nI k)) : Int32) → EW l G yX0_most cX0_most 7 (some .int) 35 28 1414 (XQ s h n (.int (msI (nI np) (sN F (fun _ => false) false EN np nd) (foS (sN F (fun _ => false) false EN np nd) 100) (swX F EC1 np nd) (awX F EC1 np nd) 13))) (kq + 2) (sq + 101) h8 (n1 + 1 + 1) 60 [some (.ref 1), some (.long (lN (foS (sN F (fun _ => false) false EN np nd) 100))), none, some (.int (msI (nI np) (sN F (fun _ => false) false EN np nd) (foS (sN F (fun _ => false) false EN np nd) 100) (swX F EC1 np nd) (awX F EC1 np nd) k)), some (.int (msV (nI np) (sN F (fun _ => false) false EN np nd) (foS (sN F (fun _ => false) false EN np nd) 100) (swX F EC1 np nd) (awX F EC1 np nd) k)), some (.int (nI k)), some (.int (mvF (sN F (fun _ => false) false EN np nd) (foS (sN F (fun _ => false) false EN np nd) 100) ((swX F EC1 np nd) (nI k)) ((awX F EC1 np nd) (nI k))))] [.int j60_0] := by
          intro j60_0 hj60_0
          refine ew_istore_n (t := 61) (L' := [some (.ref 1), some (.long (lN (foS (sN F (fun _ => false) false EN np nd) 100))), none, some (.int j60_0), some (.int (msV (nI np) (sN F (fun _ => false) false EN np nd) (foS (sN F (fun _ => false) false EN np nd) 100) (swX F EC1 np nd) (awX F EC1 np nd) k)), some (.int (nI k)), some (.int (mvF (sN F (fun _ => false) false EN np nd) (foS (sN F (fun _ => false) false EN np nd) 100) ((swX F EC1 np nd) (nI k)) ((awX F EC1 np nd) (nI k))))]) dX0_most_60 rfl (Nat.le_of_ble_eq_true rfl) rfl rfl ?_
          refine ew_iload (t := 63) dX0_most_61 rfl rfl ?_
          refine ew_iload (t := 65) dX0_most_63 rfl rfl ?_
          refine ew_mmax (t := 68) q785 q613 q62 q614 dX0_most_65 (Nat.le_of_ble_eq_true rfl) (by omega) (by omega) (Nat.le_of_ble_eq_true rfl) rfl ?_
          refine ew_istore (t := 70) (L' := [some (.ref 1), some (.long (lN (foS (sN F (fun _ => false) false EN np nd) 100))), none, some (.int j60_0), some (.int (if (msV (nI np) (sN F (fun _ => false) false EN np nd) (foS (sN F (fun _ => false) false EN np nd) 100) (swX F EC1 np nd) (awX F EC1 np nd) k) < (mvF (sN F (fun _ => false) false EN np nd) (foS (sN F (fun _ => false) false EN np nd) 100) ((swX F EC1 np nd) (nI k)) ((awX F EC1 np nd) (nI k))) then (mvF (sN F (fun _ => false) false EN np nd) (foS (sN F (fun _ => false) false EN np nd) 100) ((swX F EC1 np nd) (nI k)) ((awX F EC1 np nd) (nI k))) else (msV (nI np) (sN F (fun _ => false) false EN np nd) (foS (sN F (fun _ => false) false EN np nd) 100) (swX F EC1 np nd) (awX F EC1 np nd) k))), some (.int (nI k)), some (.int (mvF (sN F (fun _ => false) false EN np nd) (foS (sN F (fun _ => false) false EN np nd) 100) ((swX F EC1 np nd) (nI k)) ((awX F EC1 np nd) (nI k))))]) dX0_most_68 (Nat.le_of_ble_eq_true rfl) rfl rfl ?_
          refine ew_iinc (t := 73) (x := (nI k)) (v := ((nI k) + 1)) (L' := [some (.ref 1), some (.long (lN (foS (sN F (fun _ => false) false EN np nd) 100))), none, some (.int j60_0), some (.int (if (msV (nI np) (sN F (fun _ => false) false EN np nd) (foS (sN F (fun _ => false) false EN np nd) 100) (swX F EC1 np nd) (awX F EC1 np nd) k) < (mvF (sN F (fun _ => false) false EN np nd) (foS (sN F (fun _ => false) false EN np nd) 100) ((swX F EC1 np nd) (nI k)) ((awX F EC1 np nd) (nI k))) then (mvF (sN F (fun _ => false) false EN np nd) (foS (sN F (fun _ => false) false EN np nd) 100) ((swX F EC1 np nd) (nI k)) ((awX F EC1 np nd) (nI k))) else (msV (nI np) (sN F (fun _ => false) false EN np nd) (foS (sN F (fun _ => false) false EN np nd) 100) (swX F EC1 np nd) (awX F EC1 np nd) k))), some (.int ((nI k) + 1)), some (.int (mvF (sN F (fun _ => false) false EN np nd) (foS (sN F (fun _ => false) false EN np nd) 100) ((swX F EC1 np nd) (nI k)) ((awX F EC1 np nd) (nI k))))]) dX0_most_70 rfl rfl (Nat.le_of_ble_eq_true rfl) rfl rfl ?_
          refine ew_goto (t := 18) dX0_most_73 rfl ?_
          rw [nI_1]
          have ev : vlF (nI np) (sN F (fun _ => false) false EN np nd) (foS (sN F (fun _ => false) false EN np nd) 100) (swX F EC1 np nd) (awX F EC1 np nd) (nI k) = mvF (sN F (fun _ => false) false EN np nd) (foS (sN F (fun _ => false) false EN np nd) 100) ((swX F EC1 np nd) (nI k)) ((awX F EC1 np nd) (nI k)) := if_neg c_31
          rw [show j60_0 = msI (nI np) (sN F (fun _ => false) false EN np nd) (foS (sN F (fun _ => false) false EN np nd) 100) (swX F EC1 np nd) (awX F EC1 np nd) (k + 1) from by rw [hj60_0, msI, ev], show (if msV (nI np) (sN F (fun _ => false) false EN np nd) (foS (sN F (fun _ => false) false EN np nd) 100) (swX F EC1 np nd) (awX F EC1 np nd) k < mvF (sN F (fun _ => false) false EN np nd) (foS (sN F (fun _ => false) false EN np nd) 100) ((swX F EC1 np nd) (nI k)) ((awX F EC1 np nd) (nI k)) then mvF (sN F (fun _ => false) false EN np nd) (foS (sN F (fun _ => false) false EN np nd) 100) ((swX F EC1 np nd) (nI k)) ((awX F EC1 np nd) (nI k)) else msV (nI np) (sN F (fun _ => false) false EN np nd) (foS (sN F (fun _ => false) false EN np nd) 100) (swX F EC1 np nd) (awX F EC1 np nd) k) = msV (nI np) (sN F (fun _ => false) false EN np nd) (foS (sN F (fun _ => false) false EN np nd) 100) (swX F EC1 np nd) (awX F EC1 np nd) (k + 1) from by rw [mx_x, msV, ev]]
          exact ih (k + 1) h8 _ _ _ _ (by omega) ⟨by omega, fr1.trans qf8 hn1, qs8, ⟨FL, q17'.trans y17, hFL⟩, ⟨s8, x8, kp1.trans kp8⟩, xr8, by omega, by omega⟩
        refine ew_icmp_le (t := 59) (t2 := 54) dX0_most_51 rfl rfl (fun c_51 => ?_) (fun c_51 => ?_)
        · refine ew_iload_n (t := 60) dX0_most_59 rfl rfl rfl ?_
          exact J60 (msI (nI np) (sN F (fun _ => false) false EN np nd) (foS (sN F (fun _ => false) false EN np nd) 100) (swX F EC1 np nd) (awX F EC1 np nd) k) (by simp only [if_pos c_51])
        · refine ew_iload (t := 56) dX0_most_54 rfl rfl ?_
          refine ew_goto (t := 60) dX0_most_56 rfl ?_
          exact J60 (nI k) (by simp only [if_neg c_51])
set_option maxHeartbeats 600000 in
theorem xc_most {l : Launch} {G : GW} {h : AH} {n : Nat} {s ce : Nat → Int32} {F : Nat → Nat → Int32} {a b H T S U g wd np nd : Nat} (hn : 63 ≤ n) (x1 : h 1 = some (XO s)) (x16 : h 16 = some (IA 7 ce)) (sc : scX h) (xr : XR F np nd h n) (wk : WKc F a b H T S U g wd) (ok : OKP F np nd) {EC1 : Int32 → Nat → Nat} (hW : ∀ (c : Int32) (j : Nat), j < 100 → waysS H g (allW F (fR c) (fT c) (fF c) a b H T S U) (fun _ => 0) j = lN (EC1 c j) ∧ EC1 c j < 2 ^ 30) {EN : Nat → Nat} (hE : ∀ j, j < 100 → waysS H g (allW F 0 0 0 a b H T S U) (fun _ => 0) j = lN (EN j) ∧ EN j < 2 ^ 30) : AM l G yX0_most cX0_most 7 (some .int) 35 28 1414 [.ref 1] h n (XQ s h n (.int (msI (nI np) (sN F (fun _ => false) false EN np nd) (foS (sN F (fun _ => false) false EN np nd) 100) (swX F EC1 np nd) (awX F EC1 np nd) 13))) := by
  refine AM.of (L := [some (.ref 1), none, none, none, none, none, none]) (by decide) (Nat.le_of_ble_eq_true rfl) rfl ?_
  have xt := xr.2.1
  have hnp := xr.2.2.1.1
  have hnd := xr.2.2.2.1
  have hSN : ∀ j, j < 100 → (sN F (fun _ => false) false EN np nd) j < 2 ^ 50 := fun j hj => sN_lt hnp hnd (hE j hj).2
  have hAN : (foS (sN F (fun _ => false) false EN np nd) 100) < 2 ^ 60 := Nat.lt_of_le_of_lt (foS_lt 100 hSN) (by decide)
  have hS0 : ∀ j, j < 100 → (sN F (fun _ => false) false EN np nd) j ≤ (foS (sN F (fun _ => false) false EN np nd) 100) ∧ (sN F (fun _ => false) false EN np nd) j < 2 ^ 50 := fun j hj => ⟨foS_le 100 hj, hSN j hj⟩
  refine ew_aload_n (t := 1) dX0_most_0 rfl rfl rfl ?_
  refine ew_icm1 (t := 2) dX0_most_1 rfl ?_
  refine ew_aload_n (t := 3) dX0_most_2 rfl rfl rfl ?_
  refine ew_get (t := 6) (j := 16) (v := .ref 17) fcX0 x1 (Nat.le_of_ble_eq_true rfl) q278 rfl dX0_most_3 rfl ?_
  refine ew_callV (t := 9) (As := [_, _]) (xf_findOdds hn x1 x16 sc xr wk ok FLG_0 (lp := fun _ => false) (ld := false) (fun j hj => lp_0 j (by omega)) ld_0 hE (tc := 17) (Or.inl rfl)) (fcX0).1 x1 (lw_V q734 q736 qs22 q51 q737) rfl naX0_findOdds dX0_most_6 rfl (Nat.le_of_ble_eq_true rfl) (Nat.le_of_ble_eq_true rfl) (by omega) (by omega) (Nat.le_of_ble_eq_true rfl) rfl (fun rr h9 n9 qq => ?_)
  obtain ⟨rfl, qn, qf, ⟨f9, t9, hf9⟩, -, qs, ⟨s9, x9, kp9⟩, xr9⟩ := qq
  subst qn
  refine ew_lstore_n (t := 10) (L' := [some (.ref 1), some (.long (lN (foS (sN F (fun _ => false) false EN np nd) 100))), none, none, none, none, none]) dX0_most_9 rfl (Nat.le_of_ble_eq_true rfl) rfl rfl ?_
  refine ew_ic0 (t := 11) dX0_most_10 rfl ?_
  refine ew_istore_n (t := 12) (L' := [some (.ref 1), some (.long (lN (foS (sN F (fun _ => false) false EN np nd) 100))), none, some (.int 0), none, none, none]) dX0_most_11 rfl (Nat.le_of_ble_eq_true rfl) rfl rfl ?_
  refine ew_icm1 (t := 13) dX0_most_12 rfl ?_
  refine ew_istore (t := 15) (L' := [some (.ref 1), some (.long (lN (foS (sN F (fun _ => false) false EN np nd) 100))), none, some (.int 0), some (.int (-1)), none, none]) dX0_most_13 (Nat.le_of_ble_eq_true rfl) rfl rfl ?_
  refine ew_ic0 (t := 16) dX0_most_15 rfl ?_
  refine ew_istore (t := 18) (L' := [some (.ref 1), some (.long (lN (foS (sN F (fun _ => false) false EN np nd) 100))), none, some (.int 0), some (.int (-1)), some (.int 0), none]) dX0_most_16 (Nat.le_of_ble_eq_true rfl) rfl rfl ?_
  exact lx_most hn wk ok hW hE hS0 hAN 13 0 h9 _ _ _ none (by omega) ⟨by omega, qf, qs, ⟨f9, t9, hf9⟩, ⟨s9, x9, kp9⟩, xr9, by omega, by omega⟩
