-- Obj fields dict_keys(['cls', 'fun', 'sname', 'refs', 'extra', 'ups'])
/-! the reference: isKnown, its inner loop -/
set_option maxRecDepth 100000
/-- whether a way goes by the items from b on, so far -/
def knF (w : WY) (I : Nat → Int32) (b : Nat) : Nat → Int32
  | 0 => 1
  | k + 1 => if knF w I b k = 0 then 0 else if ¬ nI (w.1 k) = I (b + k) then 0 else 1

set_option maxHeartbeats 4000000 in
theorem lp_known {l : Launch} {G : GW} {h : AH} {n : Nat} {s : Nat → Int32} {al : Int64} {F34 F45 IT : Nat → Int32} {H b : Nat} {w : WY} {Q : Option Value → AH → Nat → Prop} (m33 : h 33 = some (MO s al)) (m34 : h 34 = some (IA 8 F34)) (m45 : h 45 = some (IA 7 F45)) (m61 : h 61 = some (IA 64 IT)) (hH : F34 2 = nI H) (hH6 : H ≤ 6) (hc : ∀ j, j ≤ H → F45 j = nI (w.1 j)) (hb : b + (H + 1) ≤ 64) (kk : EW l G yX4_isKnown cX4_isKnown 4 (some .boolean) 4 0 0 Q 0 0 h n 74 [some (.ref 33), some (.int (nI b)), some (.int (knF w IT b (H + 1))), some (.int (nI (H + 1)))] []) : ∀ (f k : Nat), k + f = H + 1 → EW l G yX4_isKnown cX4_isKnown 4 (some .boolean) 4 0 0 Q 0 0 h n 31 [some (.ref 33), some (.int (nI b)), some (.int (knF w IT b k)), some (.int (nI k))] [] := by
  intro f
  induction f with
  | zero =>
    intro k  hk
    refine ew_iload_n (t := 32) dX4_isKnown_31 rfl rfl rfl ?_
    refine ew_aload_n (t := 33) dX4_isKnown_32 rfl rfl rfl ?_
    refine ew_get (t := 36) (j := 0) (v := .ref 34) fcX4 m33 (Nat.le_of_ble_eq_true rfl) q1021 rfl dX4_isKnown_33 rfl ?_
    refine ew_ic2 (t := 37) dX4_isKnown_36 rfl ?_
    refine ew_iald (t := 38) (j := 2) (N := 8) m34 (vpI (by decide)) (by decide) dX4_isKnown_37 rfl ?_
    rw [hH]
    refine ew_icmp_gt (t := 74) (t2 := 41) dX4_isKnown_38 rfl rfl (fun c_38 => ?_) (fun c_38 => ?_)
    · rw [show k = H + 1 by omega]
      exact kk
    · exact absurd (nI_lt (a := H) (b := k) (by omega) (by omega)) c_38
  | succ f ih =>
    intro k  hk
    refine ew_iload_n (t := 32) dX4_isKnown_31 rfl rfl rfl ?_
    refine ew_aload_n (t := 33) dX4_isKnown_32 rfl rfl rfl ?_
    refine ew_get (t := 36) (j := 0) (v := .ref 34) fcX4 m33 (Nat.le_of_ble_eq_true rfl) q1021 rfl dX4_isKnown_33 rfl ?_
    refine ew_ic2 (t := 37) dX4_isKnown_36 rfl ?_
    refine ew_iald (t := 38) (j := 2) (N := 8) m34 (vpI (by decide)) (by decide) dX4_isKnown_37 rfl ?_
    rw [hH]
    refine ew_icmp_gt (t := 74) (t2 := 41) dX4_isKnown_38 rfl rfl (fun c_38 => ?_) (fun c_38 => ?_)
    · exact absurd c_38 (nI_nlt (a := H) (b := k) (by omega) (by omega))
    · refine ew_iload_n (t := 42) dX4_isKnown_41 rfl rfl rfl ?_
      have J67 : ∀ (j67_0 : Int32), j67_0 = ((if (knF w IT b k) = 0 then 0 else (if ¬ (nI (w.1 k)) = (IT (b + k)) then 0 else 1)) : Int32) → EW l G yX4_isKnown cX4_isKnown 4 (some .boolean) 4 0 0 Q 0 0 h n 67 [some (.ref 33), some (.int (nI b)), some (.int (knF w IT b k)), some (.int (nI k))] [.int j67_0] := by
        intro j67_0 hj67_0
        refine ew_istore_n (t := 68) (L' := [some (.ref 33), some (.int (nI b)), some (.int j67_0), some (.int (nI k))]) dX4_isKnown_67 rfl (Nat.le_of_ble_eq_true rfl) rfl rfl ?_
        refine ew_iinc (t := 71) (x := (nI k)) (v := ((nI k) + 1)) (L' := [some (.ref 33), some (.int (nI b)), some (.int j67_0), some (.int ((nI k) + 1))]) dX4_isKnown_68 rfl rfl (Nat.le_of_ble_eq_true rfl) rfl rfl ?_
        refine ew_goto (t := 31) dX4_isKnown_71 rfl ?_
        rw [nI_1]
        rw [show j67_0 = knF w IT b (k + 1) from hj67_0]
        exact ih (k + 1) (by omega)
      refine ew_if_eq (t := 66) (t2 := 45) dX4_isKnown_42 rfl rfl (fun c_42 => ?_) (fun c_42 => ?_)
      · refine ew_ic0 (t := 67) dX4_isKnown_66 rfl ?_
        exact J67 0 (by simp only [if_pos c_42])
      · refine ew_aload_n (t := 46) dX4_isKnown_45 rfl rfl rfl ?_
        refine ew_get (t := 49) (j := 14) (v := .ref 45) fcX4 m33 (Nat.le_of_ble_eq_true rfl) q1035 rfl dX4_isKnown_46 rfl ?_
        refine ew_iload_n (t := 50) dX4_isKnown_49 rfl rfl rfl ?_
        refine ew_iald (t := 51) (j := k) (N := 7) m45 (vp_in_nI (by omega) (by omega)) (nI_clamp (by omega)) dX4_isKnown_50 rfl ?_
        rw [hc k (by omega)]
        refine ew_aload_n (t := 52) dX4_isKnown_51 rfl rfl rfl ?_
        refine ew_get (t := 55) (j := 40) (v := .ref 61) fcX4 m33 (Nat.le_of_ble_eq_true rfl) q1061 rfl dX4_isKnown_52 rfl ?_
        refine ew_iload_n (t := 56) dX4_isKnown_55 rfl rfl rfl ?_
        refine ew_iload_n (t := 57) dX4_isKnown_56 rfl rfl rfl ?_
        refine ew_iadd (t := 58) dX4_isKnown_57 rfl ?_
        rw [nI_add]
        refine ew_iald (t := 59) (j := (b + k)) (N := 64) m61 (vp_in_nI (by omega) (by omega)) (nI_clamp (by omega)) dX4_isKnown_58 rfl ?_
        refine ew_icmp_ne (t := 66) (t2 := 62) dX4_isKnown_59 rfl rfl (fun c_59 => ?_) (fun c_59 => ?_)
        · refine ew_ic0 (t := 67) dX4_isKnown_66 rfl ?_
          exact J67 0 (by simp only [if_neg c_42, if_pos c_59])
        · refine ew_ic1 (t := 63) dX4_isKnown_62 rfl ?_
          refine ew_goto (t := 67) dX4_isKnown_63 rfl ?_
          exact J67 1 (by simp only [if_neg c_42, if_neg (not_not_intro c_59)])
