-- Obj fields dict_keys(['cls', 'fun', 'sname', 'refs', 'extra', 'ups'])
/-! the component: where, count -/
set_option maxRecDepth 100000
set_option maxHeartbeats 600000 in
theorem lx_where {l : Launch} {G : GW} {h : AH} {n : Nat} {s : Nat → Int32} {FL : Nat → Int64} {SN : Nat → Nat} {Q : Option Value → AH → Nat → Prop} (x1 : h 1 = some (XO s)) (x17 : h 17 = some (JA 100 FL)) (hFL : ∀ j, j < 100 → FL j = lN (SN j)) {row : Nat} (hrow : row < 10) (hq : Q (some (.int (whB SN row 10))) h n) : ∀ (f k : Nat), k + f = 10 → EW l G yX0_where cX0_where 4 (some .int) 34 2 101 Q 2 101 h n 26 [some (.ref 1), some (.int (nI row)), some (.int (whB SN row k)), some (.int (nI k))] [] := by
  intro f
  induction f with
  | zero =>
    intro k  hk
    refine ew_iload_n (t := 27) dX0_where_26 rfl rfl rfl ?_
    refine ew_bipush (t := 29) (v := 10) dX0_where_27 (by decide) rfl ?_
    refine ew_icmp_ge (t := 64) (t2 := 32) dX0_where_29 rfl rfl (fun c_29 => ?_) (fun c_29 => ?_)
    · refine ew_iload_n (t := 65) dX0_where_64 rfl rfl rfl ?_
      exact ew_iret rfl dX0_where_65 (by decide) (by decide) (by rw [show k = 10 by omega]; exact hq)
    · exact absurd (show (10 : Int32) ≤ nI k by rw [show k = 10 by omega]; decide) c_29
  | succ f ih =>
    intro k  hk
    refine ew_iload_n (t := 27) dX0_where_26 rfl rfl rfl ?_
    refine ew_bipush (t := 29) (v := 10) dX0_where_27 (by decide) rfl ?_
    refine ew_icmp_ge (t := 64) (t2 := 32) dX0_where_29 rfl rfl (fun c_29 => ?_) (fun c_29 => ?_)
    · exact absurd c_29 (nI_ge (b := 10) (by omega) (by omega))
    · refine ew_iload_n (t := 33) dX0_where_32 rfl rfl rfl ?_
      refine ew_aload_n (t := 34) dX0_where_33 rfl rfl rfl ?_
      refine ew_get (t := 37) (j := 16) (v := .ref 17) fcX0 x1 (Nat.le_of_ble_eq_true rfl) q278 rfl dX0_where_34 rfl ?_
      refine ew_bipush (t := 39) (v := 10) dX0_where_37 (by decide) rfl ?_
      refine ew_iload_n (t := 40) dX0_where_39 rfl rfl rfl ?_
      refine ew_imul (t := 41) dX0_where_40 rfl ?_
      refine ew_iload_n (t := 42) dX0_where_41 rfl rfl rfl ?_
      refine ew_iadd (t := 43) dX0_where_42 rfl ?_
      refine ew_lald (t := 44) (j := (10 * row + k)) (N := 100) x17 (by rw [(show (10 : Int32) * nI row + nI k = nI (10 * row + k) from by rw [show (10 : Int32) = nI 10 from rfl, pk_mul, nI_add])]; exact vp_in_nI (by omega) (by omega)) (by rw [(show (10 : Int32) * nI row + nI k = nI (10 * row + k) from by rw [show (10 : Int32) = nI 10 from rfl, pk_mul, nI_add])]; exact nI_clamp (by omega)) dX0_where_43 rfl ?_
      rw [hFL (10 * row + k) (by omega)]
      refine ew_lc0 (t := 45) dX0_where_44 rfl ?_
      have J56 : ∀ (j56_0 : Int32), j56_0 = ((if (lN (SN (10 * row + k))) ≤ 0 then 0 else ((1 : Int32) <<< ((nI k) &&& 31))) : Int32) → EW l G yX0_where cX0_where 4 (some .int) 34 2 101 Q 2 101 h n 56 [some (.ref 1), some (.int (nI row)), some (.int (whB SN row k)), some (.int (nI k))] [.int j56_0, .int (whB SN row k)] := by
        intro j56_0 hj56_0
        refine ew_ior (t := 57) dX0_where_56 rfl ?_
        refine ew_istore_n (t := 58) (L' := [some (.ref 1), some (.int (nI row)), some (.int ((whB SN row k) ||| j56_0)), some (.int (nI k))]) dX0_where_57 rfl (Nat.le_of_ble_eq_true rfl) rfl rfl ?_
        refine ew_iinc (t := 61) (x := (nI k)) (v := ((nI k) + 1)) (L' := [some (.ref 1), some (.int (nI row)), some (.int ((whB SN row k) ||| j56_0)), some (.int ((nI k) + 1))]) dX0_where_58 rfl rfl (Nat.le_of_ble_eq_true rfl) rfl rfl ?_
        refine ew_goto (t := 26) dX0_where_61 rfl ?_
        rw [nI_1]
        rw [show whB SN row k ||| j56_0 = whB SN row (k + 1) from by rw [hj56_0]; rfl]
        exact ih (k + 1) (by omega)
      refine ew_lcmp_le (t1 := 46) (t := 55) (t2 := 49) dX0_where_45 rfl dX0_where_46 rfl rfl (fun c_45 => ?_) (fun c_45 => ?_)
      · refine ew_ic0 (t := 56) dX0_where_55 rfl ?_
        exact J56 0 (by simp only [if_pos c_45])
      · refine ew_ic1 (t := 50) dX0_where_49 rfl ?_
        refine ew_iload_n (t := 51) dX0_where_50 rfl rfl rfl ?_
        refine ew_ishl (t := 52) dX0_where_51 rfl ?_
        refine ew_goto (t := 56) dX0_where_52 rfl ?_
        exact J56 ((1 : Int32) <<< ((nI k) &&& 31)) (by simp only [if_neg c_45])
set_option maxHeartbeats 600000 in
theorem xc_where {l : Launch} {G : GW} {h : AH} {n : Nat} {s ce : Nat → Int32} {F : Nat → Nat → Int32} {a b H T S U g wd np nd : Nat} (hn : 63 ≤ n) (x1 : h 1 = some (XO s)) (x16 : h 16 = some (IA 7 ce)) (sc : scX h) (xr : XR F np nd h n) (wk : WKc F a b H T S U g wd) (ok : OKP F np nd) {EN : Nat → Nat} (hE : ∀ j, j < 100 → waysS H g (allW F 0 0 0 a b H T S U) (fun _ => 0) j = lN (EN j) ∧ EN j < 2 ^ 30) (row : Int32) : AM l G yX0_where cX0_where 4 (some .int) 34 2 101 [.ref 1, .int row] h n (XQ s h n (.int (whF (sN F (fun _ => false) false EN np nd) row))) := by
  refine AM.of (L := [some (.ref 1), some (.int row), none, none]) (by decide) (Nat.le_of_ble_eq_true rfl) rfl ?_
  have xt := xr.2.1
  have hnp := xr.2.2.1.1
  have hnd := xr.2.2.2.1
  have hSN : ∀ j, j < 100 → (sN F (fun _ => false) false EN np nd) j < 2 ^ 50 := fun j hj => sN_lt hnp hnd (hE j hj).2
  have hAN : (foS (sN F (fun _ => false) false EN np nd) 100) < 2 ^ 60 := Nat.lt_of_le_of_lt (foS_lt 100 hSN) (by decide)
  refine ew_iload_n (t := 1) dX0_where_0 rfl rfl rfl ?_
  refine ew_ic0 (t := 2) dX0_where_1 rfl ?_
  refine ew_bipush (t := 4) (v := 9) dX0_where_2 (by decide) rfl ?_
  refine ew_callS (t := 7) (As := [_, _, _]) (ax_isIn _ _ _) (lw_S q330 q331 q51 q332) naX0_isIn dX0_where_4 rfl (Nat.le_of_ble_eq_true rfl) (Nat.le_of_ble_eq_true rfl) (by omega) (by omega) (Nat.le_of_ble_eq_true rfl) rfl (qi ?_)
  refine ew_if_ne (t := 12) (t2 := 10) dX0_where_7 rfl rfl (fun c_7 => ?_) (fun c_7 => ?_)
  · have c_7' : ¬ b2i (inL row.toInt64 0 9) = 0 := by rw [show b2i (inL row.toInt64 0 9) = b2i (inI row 0 9) from congrArg b2i (inL_I row 0 9)]; exact c_7
    obtain ⟨j, hj, rfl⟩ := in9 c_7'
    refine ew_aload_n (t := 13) dX0_where_12 rfl rfl rfl ?_
    refine ew_icm1 (t := 14) dX0_where_13 rfl ?_
    refine ew_aload_n (t := 15) dX0_where_14 rfl rfl rfl ?_
    refine ew_get (t := 18) (j := 16) (v := .ref 17) fcX0 x1 (Nat.le_of_ble_eq_true rfl) q278 rfl dX0_where_15 rfl ?_
    refine ew_callV (t := 21) (As := [_, _]) (xf_findOdds hn x1 x16 sc xr wk ok FLG_0 (lp := fun _ => false) (ld := false) (fun j hj => lp_0 j (by omega)) ld_0 hE (tc := 17) (Or.inl rfl)) (fcX0).1 x1 (lw_V q734 q736 qs22 q51 q737) rfl naX0_findOdds dX0_where_18 rfl (Nat.le_of_ble_eq_true rfl) (Nat.le_of_ble_eq_true rfl) (by omega) (by omega) (Nat.le_of_ble_eq_true rfl) rfl (fun rr h9 n9 qq => ?_)
    obtain ⟨rfl, qn, qf, ⟨f9, t9, hf9⟩, -, qs, ⟨s9, x9, kp9⟩, xr9⟩ := qq
    subst qn
    refine ew_pop2 (t := 22) dX0_where_21 rfl rfl ?_
    refine ew_ic0 (t := 23) dX0_where_22 rfl ?_
    refine ew_istore_n (t := 24) (L' := [some (.ref 1), some (.int (nI j)), some (.int 0), none]) dX0_where_23 rfl (Nat.le_of_ble_eq_true rfl) rfl rfl ?_
    refine ew_ic0 (t := 25) dX0_where_24 rfl ?_
    refine ew_istore_n (t := 26) (L' := [some (.ref 1), some (.int (nI j)), some (.int 0), some (.int 0)]) dX0_where_25 rfl (Nat.le_of_ble_eq_true rfl) rfl rfl ?_
    refine lx_where x9 t9 hf9 hj ?_ 10 0 (by omega)
    exact ⟨by rw [show whF (sN F (fun _ => false) false EN np nd) (nI j) = whB (sN F (fun _ => false) false EN np nd) j 10 from by unfold whF; rw [if_neg c_7', nI_clamp (n := j) (by omega)]], by omega, qf, qs, s9, x9, kp9⟩
  · refine ew_icm1 (t := 11) dX0_where_10 rfl ?_
    exact ew_iret rfl dX0_where_11 (by decide) (by decide) (by rw [show whF (sN F (fun _ => false) false EN np nd) row = -1 from by unfold whF; rw [show b2i (inL row.toInt64 0 9) = b2i (inI row 0 9) from congrArg b2i (inL_I row 0 9), if_pos c_7]]; exact XQ.same x1 sc)
