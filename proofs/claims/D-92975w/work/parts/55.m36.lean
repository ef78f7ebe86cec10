-- Obj fields dict_keys(['cls', 'fun', 'sname', 'refs', 'extra', 'ups'])
/-! the reference: type -/
set_option maxRecDepth 100000
def chL (w : Int64) (x : Int32) : Int64 := (w >>> (((8 : Int32) * x).toInt64 &&& 63)) &&& 255
def tyB (w : Int64) : Nat → Nat → Int32
  | 0, _ => 1
  | f + 1, k => if ¬ b2i (inL (chL w (nI k)) 32 126) = 0 then tyB w f (k + 1) else 0
def tyT (T : Nat → Int32) (w : Int64) (tp m : Nat) : Nat → Nat → Int32
  | 0 => T
  | k + 1 => upd (tyT T w tp m k) (tp + k) (chL w (nI (m - 1 - k))).toInt32
def typP (s : Nat → Int32) (F : Nat → Nat → Int32) (tp : Nat) (w : Int64) (nn : Int32) : OR := if ¬ b2i (inL nn.toInt64 1 8) = 0 then (if tyB w nn.toNatClampNeg 0 = 0 then (-1, s, F) else if nI tp + nn ≤ 60 then (nI (tp + nn.toNatClampNeg), upd s 7 (nI (tp + nn.toNatClampNeg)), va_up F 40 (tyT (F 40) w tp nn.toNatClampNeg nn.toNatClampNeg)) else (-3, s, F)) else (-1, s, F)

set_option maxHeartbeats 4000000 in
theorem lp_type1 {l : Launch} {G : GW} {h : AH} {n : Nat} {w : Int64} {m : Nat} (hm : m ≤ 8) {b : Int32} {Q : Option Value → AH → Nat → Prop} (hq : b = 0 → Q (some (.int (-1))) h n) (kk : ¬ b = 0 → EW l G yX4_type cX4_type 5 (some .int) 2 0 0 Q 0 0 h n 54 [some (.ref 33), some (.long w), none, some (.int (nI m)), some (.int (nI m))] []) : ∀ (f k : Nat), k + f = m → tyB w f k = b → EW l G yX4_type cX4_type 5 (some .int) 2 0 0 Q 0 0 h n 17 [some (.ref 33), some (.long w), none, some (.int (nI m)), some (.int (nI k))] [] := by
  intro f
  induction f with
  | zero =>
    intro k  hk hb
    refine ew_iload (t := 19) dX4_type_17 rfl rfl ?_
    refine ew_iload_n (t := 20) dX4_type_19 rfl rfl rfl ?_
    refine ew_icmp_ge (t := 54) (t2 := 23) dX4_type_20 rfl rfl (fun c_20 => ?_) (fun c_20 => ?_)
    · rw [show k = m by omega]
      exact kk (fun q => by rw [← hb] at q; exact absurd q (show ¬ (1 : Int32) = 0 by decide))
    · exact absurd c_20 (by rw [show k = m by omega]; exact not_not_intro (Int32.le_refl _))
  | succ f ih =>
    intro k  hk hb
    refine ew_iload (t := 19) dX4_type_17 rfl rfl ?_
    refine ew_iload_n (t := 20) dX4_type_19 rfl rfl rfl ?_
    refine ew_icmp_ge (t := 54) (t2 := 23) dX4_type_20 rfl rfl (fun c_20 => ?_) (fun c_20 => ?_)
    · exact absurd c_20 (nI_ge (by omega) (by omega))
    · refine ew_lload_n (t := 24) dX4_type_23 rfl rfl rfl ?_
      refine ew_bipush (t := 26) (v := 8) dX4_type_24 (by decide) rfl ?_
      refine ew_iload (t := 28) dX4_type_26 rfl rfl ?_
      refine ew_imul (t := 29) dX4_type_28 rfl ?_
      refine ew_lshr (t := 30) dX4_type_29 rfl ?_
      refine ew_ldc2 (t := 33) (v := 255) dX4_type_30 q1181 rfl ?_
      refine ew_land (t := 34) dX4_type_33 rfl ?_
      refine ew_ldc2 (t := 37) (v := 32) dX4_type_34 q1182 rfl ?_
      refine ew_ldc2 (t := 40) (v := 126) dX4_type_37 q1183 rfl ?_
      refine ew_callS (t := 43) (As := [_, _, _]) (am_in _ _ _) (lw_S q1153 q1154 q60 q1155) naX4_in dX4_type_40 rfl (Nat.le_of_ble_eq_true rfl) (Nat.le_of_ble_eq_true rfl) (Nat.le_refl _) (Nat.le_refl _) (Nat.le_of_ble_eq_true rfl) rfl (qi ?_)
      refine ew_if_ne (t := 48) (t2 := 46) dX4_type_43 rfl rfl (fun c_43 => ?_) (fun c_43 => ?_)
      · refine ew_iinc (t := 51) (x := (nI k)) (v := ((nI k) + 1)) (L' := [some (.ref 33), some (.long w), none, some (.int (nI m)), some (.int ((nI k) + 1))]) dX4_type_48 rfl rfl (Nat.le_of_ble_eq_true rfl) rfl rfl ?_
        refine ew_goto (t := 17) dX4_type_51 rfl ?_
        rw [nI_1]
        exact ih (k + 1) (by omega) (by rw [← hb, tyB, if_pos (show ¬ b2i (inL (chL w (nI k)) 32 126) = 0 from c_43)])
      · refine ew_icm1 (t := 47) dX4_type_46 rfl ?_
        exact ew_iret rfl dX4_type_47 (Nat.le_refl _) (Nat.le_refl _) (hq (by rw [← hb, tyB, if_neg (not_not_intro (show b2i (inL (chL w (nI k)) 32 126) = 0 from c_43))]))
set_option maxHeartbeats 4000000 in
theorem lp_type2 {l : Launch} {G : GW} {h : AH} {n : Nat} {s : Nat → Int32} {al : Int64} {T : Nat → Int32} {w : Int64} {tp m : Nat} (htp : tp + m ≤ 60) {Q : Option Value → AH → Nat → Prop} (hq : Q (some (.int (nI (tp + m)))) (hov h [(40, IA 60 (tyT T w tp m m)), (33, MO (upd s 7 (nI (tp + m))) al)]) n) : ∀ (f k : Nat) (x : Int32), k + f = m → x = nI f - 1 → EW l G yX4_type cX4_type 5 (some .int) 2 0 0 Q 0 0 (hov h [(40, IA 60 (tyT T w tp m k)), (33, OB 4 (MOf (upd s 7 (nI (tp + k))) al))]) n 73 [some (.ref 33), some (.long w), none, some (.int (nI m)), some (.int x)] [] := by
  intro f
  induction f with
  | zero =>
    intro k x hk hx
    refine ew_iload (t := 75) dX4_type_73 rfl rfl ?_
    refine ew_if_lt (t := 115) (t2 := 78) dX4_type_75 rfl rfl (fun c_75 => ?_) (fun c_75 => ?_)
    · refine ew_aload_n (t := 116) dX4_type_115 rfl rfl rfl ?_
      refine ew_get (t := 119) (j := 7) (v := .int (nI (tp + k))) fcX4 rfl (Nat.le_of_ble_eq_true rfl) q1028 rfl dX4_type_116 rfl ?_
      exact ew_iret rfl dX4_type_119 (Nat.le_refl _) (Nat.le_refl _) (by rw [show k = m by omega]; exact hq)
    · exact absurd (by rw [hx]; decide) c_75
  | succ f ih =>
    intro k x hk hx
    refine ew_iload (t := 75) dX4_type_73 rfl rfl ?_
    refine ew_if_lt (t := 115) (t2 := 78) dX4_type_75 rfl rfl (fun c_75 => ?_) (fun c_75 => ?_)
    · exact absurd c_75 (by rw [hx, nI_m1]; exact nI_nlt (a := f) (b := 0) (by omega) (by omega))
    · refine ew_aload_n (t := 79) dX4_type_78 rfl rfl rfl ?_
      refine ew_get (t := 82) (j := 6) (v := .ref 40) fcX4 rfl (Nat.le_of_ble_eq_true rfl) q1027 rfl dX4_type_79 rfl ?_
      refine ew_aload_n (t := 83) dX4_type_82 rfl rfl rfl ?_
      refine ew_get (t := 86) (j := 7) (v := .int (nI (tp + k))) fcX4 rfl (Nat.le_of_ble_eq_true rfl) q1028 rfl dX4_type_83 rfl ?_
      refine ew_lload_n (t := 87) dX4_type_86 rfl rfl rfl ?_
      refine ew_bipush (t := 89) (v := 8) dX4_type_87 (by decide) rfl ?_
      refine ew_iload (t := 91) dX4_type_89 rfl rfl ?_
      refine ew_imul (t := 92) dX4_type_91 rfl ?_
      refine ew_lshr (t := 93) dX4_type_92 rfl ?_
      refine ew_ldc2 (t := 96) (v := 255) dX4_type_93 q1181 rfl ?_
      refine ew_land (t := 97) dX4_type_96 rfl ?_
      refine ew_l2i (t := 98) dX4_type_97 rfl ?_
      refine ew_iast (t := 99) (j := (tp + k)) (N := 60) (h' := (hov h [(40, IA 60 (upd (tyT T w tp m k) (tp + k) (((w >>> ((8 * x).toInt64 &&& 63)) &&& 255).toInt32))), (33, OB 4 (MOf (upd s 7 (nI (tp + k))) al))])) rfl (vp_in_nI (by omega) (by omega)) (nI_clamp (by omega)) dX4_type_98 (hov_up rfl) rfl ?_
      refine ew_aload_n (t := 100) dX4_type_99 rfl rfl rfl ?_
      refine ew_dup (t := 101) dX4_type_100 rfl rfl ?_
      refine ew_get (t := 104) (j := 7) (v := .int (nI (tp + k))) fcX4 rfl (Nat.le_of_ble_eq_true rfl) q1028 rfl dX4_type_101 rfl ?_
      refine ew_ic1 (t := 105) dX4_type_104 rfl ?_
      refine ew_iadd (t := 106) dX4_type_105 rfl ?_
      refine ew_put (t := 109) (j := 7) (fs' := MOf (upd s 7 ((nI (tp + k)) + 1)) al) (h' := (hov h [(40, IA 60 (upd (tyT T w tp m k) (tp + k) (((w >>> ((8 * x).toInt64 &&& 63)) &&& 255).toInt32))), (33, OB 4 (MOf (upd s 7 ((nI (tp + k)) + 1)) al))])) fcX4 rfl (Nat.le_of_ble_eq_true rfl) rfl q1028 rfl rfl (Nat.le_of_ble_eq_true rfl) rfl dX4_type_106 (hov_up rfl) rfl ?_
      refine ew_iinc (t := 112) (x := x) (v := (x + (-1))) (L' := [some (.ref 33), some (.long w), none, some (.int (nI m)), some (.int (x + (-1)))]) dX4_type_109 rfl rfl (Nat.le_of_ble_eq_true rfl) rfl rfl ?_
      refine ew_goto (t := 73) dX4_type_112 rfl ?_
      rw [nI_1]
      have e : x = nI f := hx.trans (nI_m1 f)
      rw [show upd (tyT T w tp m k) (tp + k) ((w >>> (((8 : Int32) * x).toInt64 &&& 63)) &&& 255).toInt32 = tyT T w tp m (k + 1) from by rw [tyT, show m - 1 - k = f by omega, e]; rfl]
      exact ih (k + 1) _ (by omega) (by rw [e]; exact (Int32.sub_eq_add_neg _ _).symm)
theorem hov_same2 {h : AH} {a b : Nat} {c d : AC} (e1 : h a = some c) (e2 : h b = some d) : hov h [(a, c), (b, d)] = h := by
  funext k
  show cond (Nat.beq k a) (some c) (cond (Nat.beq k b) (some d) (h k)) = h k
  by_cases h1 : k = a
  · subst h1; rw [e1]; simp
  · rw [beq_ff h1]
    by_cases h2 : k = b
    · subst h2; rw [e2]; simp
    · rw [beq_ff h2]; rfl
set_option maxHeartbeats 4000000 in
theorem mc_type {l : Launch} {G : GW} {h : AH} {n : Nat} {s : Nat → Int32} {al : Int64} {F : Nat → Nat → Int32} {FL : Nat → Int64} (mc : MC s al F FL h) {tp : Nat} (h7 : s 7 = nI tp) (htp : tp ≤ 60) (w : Int64) (nn : Int32) : AM l G yX4_type cX4_type 5 (some .int) 2 0 0 [.ref 33, .long w, .int nn] h n (OpR h n (typP s F tp w nn)) := by
  refine AM.of (L := [some (.ref 33), some (.long w), none, some (.int nn), none]) (by decide) (Nat.le_of_ble_eq_true rfl) rfl ?_
  refine ew_iload_n (t := 1) dX4_type_0 rfl rfl rfl ?_
  refine ew_i2l (t := 2) dX4_type_1 rfl ?_
  refine ew_lc1 (t := 3) dX4_type_2 rfl ?_
  refine ew_ldc2 (t := 6) (v := 8) dX4_type_3 q1180 rfl ?_
  refine ew_callS (t := 9) (As := [_, _, _]) (am_in _ _ _) (lw_S q1153 q1154 q60 q1155) naX4_in dX4_type_6 rfl (Nat.le_of_ble_eq_true rfl) (Nat.le_of_ble_eq_true rfl) (Nat.le_refl _) (Nat.le_refl _) (Nat.le_of_ble_eq_true rfl) rfl (qi ?_)
  refine ew_if_ne (t := 14) (t2 := 12) dX4_type_9 rfl rfl (fun c_9 => ?_) (fun c_9 => ?_)
  · obtain ⟨m, hm0, hm, rfl⟩ := inI_nat (c := nn) (lo := 1) (hi := 8) (by decide) (by decide) ((inL_I nn 1 8).symm.trans (b2i_1.mp c_9))
    refine ew_ic0 (t := 15) dX4_type_14 rfl ?_
    refine ew_istore (t := 17) (L' := [some (.ref 33), some (.long w), none, some (.int (nI m)), some (.int 0)]) dX4_type_15 (Nat.le_of_ble_eq_true rfl) rfl rfl ?_
    refine lp_type1 (b := tyB w m 0) hm (fun e => ?_) (fun hb => ?_) m 0 (by omega) rfl
    · unfold typP
      rw [if_pos c_9, nI_clamp (n := m) (by omega), if_pos e]
      exact OpR.same mc
    refine ew_aload_n (t := 55) dX4_type_54 rfl rfl rfl ?_
    refine ew_get (t := 58) (j := 7) (v := .int (s 7)) fcX4 mc.1 (Nat.le_of_ble_eq_true rfl) q1028 rfl dX4_type_55 rfl ?_
    rw [h7]
    refine ew_iload_n (t := 59) dX4_type_58 rfl rfl rfl ?_
    refine ew_iadd (t := 60) dX4_type_59 rfl ?_
    refine ew_bipush (t := 62) (v := 60) dX4_type_60 (by decide) rfl ?_
    refine ew_icmp_le (t := 68) (t2 := 65) dX4_type_62 rfl rfl (fun c_62 => ?_) (fun c_62 => ?_)
    · refine ew_iload_n (t := 69) dX4_type_68 rfl rfl rfl ?_
      refine ew_ic1 (t := 70) dX4_type_69 rfl ?_
      refine ew_isub (t := 71) dX4_type_70 rfl ?_
      refine ew_istore (t := 73) (L' := [some (.ref 33), some (.long w), none, some (.int (nI m)), some (.int ((nI m) - 1))]) dX4_type_71 (Nat.le_of_ble_eq_true rfl) rfl rfl ?_
      have h60 : tp + m ≤ 60 := by have q := c_62; rw [nI_add] at q; exact (nI_leI (b := 60) (by omega) (by omega)).mp q
      refine EW.heap (h' := hov h [(40, IA 60 (F 40)), (33, MO (upd s 7 (nI (tp + 0))) al)]) (by rw [upd_same (s := s) (k := 7) (x := nI (tp + 0)) h7]; exact (hov_same2 (mI mc 40 rfl) mc.1).symm) ?_
      refine lp_type2 (s := s) (T := F 40) (tp := tp) (m := m) h60 ?_ m 0 (nI m - 1) (by omega) rfl
      unfold typP
      rw [if_pos c_9, nI_clamp (n := m) (by omega), if_neg hb, if_pos c_62]
      exact OpR.ov (MC_I (c := 40) rfl (MC_33 (l := []) mc)) (hov_fr 33 63 rfl)
    · refine ew_bipush (t := 67) (v := (-3)) dX4_type_65 (by decide) rfl ?_
      exact ew_iret rfl dX4_type_67 (Nat.le_refl _) (Nat.le_refl _) (by unfold typP; rw [if_pos c_9, nI_clamp (n := m) (by omega), if_neg hb, if_neg c_62]; exact OpR.same mc)
  · refine ew_icm1 (t := 13) dX4_type_12 rfl ?_
    exact ew_iret rfl dX4_type_13 (Nat.le_refl _) (Nat.le_refl _) (by unfold typP; rw [if_neg (not_not_intro c_9)]; exact OpR.same mc)
