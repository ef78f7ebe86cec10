-- Obj fields dict_keys(['cls', 'fun', 'sname', 'refs', 'extra', 'ups'])
/-! the component: type's first loop -/
set_option maxRecDepth 100000
set_option maxHeartbeats 600000 in
theorem lx_type1 {l : Launch} {G : GW} {h : AH} {n : Nat} {w : Int64} {m : Nat} (hm : m ≤ 8) {Q : Option Value → AH → Nat → Prop} (hq : tyB w m 0 = 0 → Q (some (.int (-1))) h n) (kk : tyB w m 0 = 1 → EW l G yX0_type cX0_type 5 (some .int) 2 0 0 Q 0 0 h n 52 [some (.ref 1), some (.long w), none, some (.int (nI m)), some (.int (-1))] []) : ∀ (k : Nat), k ≤ m → (∀ j, k ≤ j → j < m → ¬ b2i (inL (chL w (nI j)) 32 126) = 0) → EW l G yX0_type cX0_type 5 (some .int) 2 0 0 Q 0 0 h n 17 [some (.ref 1), some (.long w), none, some (.int (nI m)), some (.int (nI k - 1))] [] := by
  intro k
  induction k with
  | zero =>
    intro hk hall
    refine ew_iload (t := 19) dX0_type_17 rfl rfl ?_
    refine ew_if_lt (t := 52) (t2 := 22) dX0_type_19 rfl rfl (fun c_19 => ?_) (fun c_19 => ?_)
    · exact kk (tyB_1 m 0 (fun j h1 h2 => hall j h1 (by omega)))
    · exact absurd (by decide) c_19
  | succ k ih =>
    intro hk hall
    rw [nI_m1]
    refine ew_iload (t := 19) dX0_type_17 rfl rfl ?_
    refine ew_if_lt (t := 52) (t2 := 22) dX0_type_19 rfl rfl (fun c_19 => ?_) (fun c_19 => ?_)
    · exact absurd c_19 (nI_pos (by omega))
    · refine ew_lload_n (t := 23) dX0_type_22 rfl rfl rfl ?_
      refine ew_bipush (t := 25) (v := 8) dX0_type_23 (by decide) rfl ?_
      refine ew_iload (t := 27) dX0_type_25 rfl rfl ?_
      refine ew_imul (t := 28) dX0_type_27 rfl ?_
      refine ew_lshr (t := 29) dX0_type_28 rfl ?_
      refine ew_ldc2 (t := 32) (v := 255) dX0_type_29 q352 rfl ?_
      refine ew_land (t := 33) dX0_type_32 rfl ?_
      refine ew_l2i (t := 34) dX0_type_33 rfl ?_
      refine ew_bipush (t := 36) (v := 32) dX0_type_34 (by decide) rfl ?_
      refine ew_bipush (t := 38) (v := 126) dX0_type_36 (by decide) rfl ?_
      refine ew_callS (t := 41) (As := [_, _, _]) (ax_isIn _ _ _) (lw_S q330 q331 q51 q332) naX0_isIn dX0_type_38 rfl (Nat.le_of_ble_eq_true rfl) (Nat.le_of_ble_eq_true rfl) (Nat.le_refl _) (Nat.le_refl _) (Nat.le_of_ble_eq_true rfl) rfl (qi ?_)
      refine ew_if_ne (t := 46) (t2 := 44) dX0_type_41 rfl rfl (fun c_41 => ?_) (fun c_41 => ?_)
      · refine ew_iinc (t := 49) (x := (nI k)) (v := ((nI k) + (-1))) (L' := [some (.ref 1), some (.long w), none, some (.int (nI m)), some (.int ((nI k) + (-1)))]) dX0_type_46 rfl rfl (Nat.le_of_ble_eq_true rfl) rfl rfl ?_
        refine ew_goto (t := 17) dX0_type_49 rfl ?_
        rw [show nI k + (-1) = nI k - 1 from (Int32.sub_eq_add_neg (nI k) 1).symm]
        refine ih (by omega) (fun j h1 h2 => ?_)
        by_cases e : j = k
        · subst e; rw [← ch_in]; exact c_41
        · exact hall j (by omega) h2
      · refine ew_icm1 (t := 45) dX0_type_44 rfl ?_
        exact ew_iret rfl dX0_type_45 (Nat.le_refl _) (Nat.le_refl _) (hq (tyB_0 (j := k) (by rw [← ch_in]; exact c_41) m 0 (by omega) (by omega)))
