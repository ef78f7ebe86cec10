/-! the reference: thousandths -/
set_option maxRecDepth 100000
/-- digits of x / A and what is left -/
def thR (x A : Nat) : Nat → Nat
  | 0 => x
  | k + 1 => thR x A k * 10 % A
def thV (x A : Nat) : Nat → Nat
  | 0 => 0
  | k + 1 => 10 * thV x A k + thR x A k * 10 / A
def thF (x A : Nat) : Int32 := if ¬ lN x = lN A then nI (thV x A 3) else 1000
theorem thR_lt {x A : Nat} (hx : x < 2 ^ 50) (hA : 0 < A) (hA2 : A < 2 ^ 50) : ∀ k, thR x A k < 2 ^ 50
  | 0 => hx
  | k + 1 => Nat.lt_trans (Nat.mod_lt _ hA) hA2
set_option maxHeartbeats 4000000 in
theorem lp_th {l : Launch} {G : GW} {h : AH} {n : Nat} {s : Nat → Int32} {al : Int64} {x A : Nat} (m33 : h 33 = some (MO s al)) (hal : al = lN A) (hx : x < 2 ^ 50) (hA : 0 < A) (hA2 : A < 2 ^ 50) {Q : Option Value → AH → Nat → Prop} (hq : Q (some (.int (nI (thV x A 3)))) h n) : ∀ (f k : Nat), k + f = 3 → EW l G yX4_thousandths cX4_thousandths 7 (some .int) 0 0 0 Q 0 0 h n 21 [some (.ref 33), some (.long (lN x)), none, some (.int (nI (thV x A k))), some (.long (lN (thR x A k))), none, some (.int (nI k))] [] := by
  intro f
  induction f with
  | zero =>
    intro k  hk
    have hAn : ¬ lN A = 0 := fun e => by have := (pk_lEQ (b := 0) (by omega) (by omega)).mp e; omega
    refine ew_iload (t := 23) dX4_thousandths_21 rfl rfl ?_
    refine ew_ic3 (t := 24) dX4_thousandths_23 rfl ?_
    refine ew_icmp_ge (t := 64) (t2 := 27) dX4_thousandths_24 rfl rfl (fun c_24 => ?_) (fun c_24 => ?_)
    · refine ew_iload_n (t := 65) dX4_thousandths_64 rfl rfl rfl ?_
      exact ew_iret rfl dX4_thousandths_65 (Nat.le_refl _) (Nat.le_refl _) (by rw [show k = 3 by omega]; exact hq)
    · exact absurd (show (3 : Int32) ≤ nI k by rw [show k = 3 by omega]; decide) c_24
  | succ f ih =>
    intro k  hk
    have hAn : ¬ lN A = 0 := fun e => by have := (pk_lEQ (b := 0) (by omega) (by omega)).mp e; omega
    refine ew_iload (t := 23) dX4_thousandths_21 rfl rfl ?_
    refine ew_ic3 (t := 24) dX4_thousandths_23 rfl ?_
    refine ew_icmp_ge (t := 64) (t2 := 27) dX4_thousandths_24 rfl rfl (fun c_24 => ?_) (fun c_24 => ?_)
    · exact absurd c_24 (nI_ge (b := 3) (by omega) (by omega))
    · refine ew_bipush (t := 29) (v := 10) dX4_thousandths_27 (by decide) rfl ?_
      refine ew_iload_n (t := 30) dX4_thousandths_29 rfl rfl rfl ?_
      refine ew_imul (t := 31) dX4_thousandths_30 rfl ?_
      refine ew_lload (t := 33) dX4_thousandths_31 rfl rfl ?_
      refine ew_ldc2 (t := 36) (v := 10) dX4_thousandths_33 q1344 rfl ?_
      refine ew_lmul (t := 37) dX4_thousandths_36 rfl ?_
      rw [show lN (thR x A k) * 10 = lN (thR x A k * 10) from lN_mul _ 10]
      refine ew_aload_n (t := 38) dX4_thousandths_37 rfl rfl rfl ?_
      refine ew_get (t := 41) (j := 31) (v := .long al) fcX4 m33 (Nat.le_of_ble_eq_true rfl) q1052 rfl dX4_thousandths_38 rfl ?_
      rw [hal]
      refine ew_ldiv (t := 42) dX4_thousandths_41 hAn rfl ?_
      rw [pk_lDiv (by have := thR_lt hx hA hA2 k; omega) hA (by omega)]
      refine ew_l2i (t := 43) dX4_thousandths_42 rfl ?_
      rw [lN_i]
      refine ew_iadd (t := 44) dX4_thousandths_43 rfl ?_
      rw [show (10 : Int32) * nI (thV x A k) + nI (thR x A k * 10 / A) = nI (thV x A (k + 1)) from by rw [show (10 : Int32) = nI 10 from rfl, pk_mul, nI_add]; rfl]
      refine ew_istore_n (t := 45) (L' := [some (.ref 33), some (.long (lN x)), none, some (.int (nI (thV x A (k + 1)))), some (.long (lN (thR x A k))), none, some (.int (nI k))]) dX4_thousandths_44 rfl (Nat.le_of_ble_eq_true rfl) rfl rfl ?_
      refine ew_lload (t := 47) dX4_thousandths_45 rfl rfl ?_
      refine ew_ldc2 (t := 50) (v := 10) dX4_thousandths_47 q1344 rfl ?_
      refine ew_lmul (t := 51) dX4_thousandths_50 rfl ?_
      rw [show lN (thR x A k) * 10 = lN (thR x A k * 10) from lN_mul _ 10]
      refine ew_aload_n (t := 52) dX4_thousandths_51 rfl rfl rfl ?_
      refine ew_get (t := 55) (j := 31) (v := .long al) fcX4 m33 (Nat.le_of_ble_eq_true rfl) q1052 rfl dX4_thousandths_52 rfl ?_
      rw [hal]
      refine ew_lrem (t := 56) dX4_thousandths_55 hAn rfl ?_
      rw [show lN (thR x A k * 10) - lN (thR x A k * 10) / lN A * lN A = lN (thR x A (k + 1)) from pk_lRem (by have := thR_lt hx hA hA2 k; omega) hA (by omega)]
      refine ew_lstore (t := 58) (L' := [some (.ref 33), some (.long (lN x)), none, some (.int (nI (thV x A (k + 1)))), some (.long (lN (thR x A (k + 1)))), none, some (.int (nI k))]) dX4_thousandths_56 (Nat.le_of_ble_eq_true rfl) rfl rfl ?_
      refine ew_iinc (t := 61) (x := (nI k)) (v := ((nI k) + 1)) (L' := [some (.ref 33), some (.long (lN x)), none, some (.int (nI (thV x A (k + 1)))), some (.long (lN (thR x A (k + 1)))), none, some (.int ((nI k) + 1))]) dX4_thousandths_58 rfl rfl (Nat.le_of_ble_eq_true rfl) rfl rfl ?_
      refine ew_goto (t := 21) dX4_thousandths_61 rfl ?_
      rw [nI_1]
      exact ih (k + 1) (by omega)
set_option maxHeartbeats 4000000 in
theorem am_thousandths {l : Launch} {G : GW} {h : AH} {n : Nat} {s : Nat → Int32} {al : Int64} {x A : Nat} (m33 : h 33 = some (MO s al)) (hal : al = lN A) (hx : x < 2 ^ 50) (hA : 0 < A) (hA2 : A < 2 ^ 50) : AM l G yX4_thousandths cX4_thousandths 7 (some .int) 0 0 0 [.ref 33, .long (lN x)] h n (Qi (thF x A) h n) := by
  refine AM.of (L := [some (.ref 33), some (.long (lN x)), none, none, none, none, none]) (by decide) (Nat.le_of_ble_eq_true rfl) rfl ?_
  refine ew_lload_n (t := 1) dX4_thousandths_0 rfl rfl rfl ?_
  refine ew_aload_n (t := 2) dX4_thousandths_1 rfl rfl rfl ?_
  refine ew_get (t := 5) (j := 31) (v := .long al) fcX4 m33 (Nat.le_of_ble_eq_true rfl) q1052 rfl dX4_thousandths_2 rfl ?_
  rw [hal]
  refine ew_lcmp_ne (t1 := 6) (t := 13) (t2 := 9) dX4_thousandths_5 rfl dX4_thousandths_6 rfl rfl (fun c_5 => ?_) (fun c_5 => ?_)
  · refine ew_ic0 (t := 14) dX4_thousandths_13 rfl ?_
    refine ew_istore_n (t := 15) (L' := [some (.ref 33), some (.long (lN x)), none, some (.int 0), none, none, none]) dX4_thousandths_14 rfl (Nat.le_of_ble_eq_true rfl) rfl rfl ?_
    refine ew_lload_n (t := 16) dX4_thousandths_15 rfl rfl rfl ?_
    refine ew_lstore (t := 18) (L' := [some (.ref 33), some (.long (lN x)), none, some (.int 0), some (.long (lN x)), none, none]) dX4_thousandths_16 (Nat.le_of_ble_eq_true rfl) rfl rfl ?_
    refine ew_ic0 (t := 19) dX4_thousandths_18 rfl ?_
    refine ew_istore (t := 21) (L' := [some (.ref 33), some (.long (lN x)), none, some (.int 0), some (.long (lN x)), none, some (.int 0)]) dX4_thousandths_19 (Nat.le_of_ble_eq_true rfl) rfl rfl ?_
    exact lp_th m33 hal hx hA hA2 ⟨by unfold thF; rw [if_pos c_5], rfl, rfl⟩ 3 0 (by omega)
  · refine ew_sipush (t := 12) (v := 1000) dX4_thousandths_9 (by decide) rfl ?_
    exact ew_iret rfl dX4_thousandths_12 (Nat.le_refl _) (Nat.le_refl _) ⟨by unfold thF; rw [if_neg (not_not_intro c_5)], rfl, rfl⟩
