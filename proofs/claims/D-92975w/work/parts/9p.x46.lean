-- Obj fields dict_keys(['cls', 'fun', 'sname', 'refs', 'extra', 'ups'])
/-! the component: type -/
set_option maxRecDepth 100000
abbrev FO (p : Int32) : AC := OB 2 [.null, .null, .null, .null, .null, .int 0, .int p]
/-- behind an op on texts -/
def XYQ (s : Nat → Int32) (h : AH) (n : Nat) (p : OR) : Option Value → AH → Nat → Prop := fun r h' n' => r = some (.int p.1) ∧ n' = n ∧ (∃ s', h' 1 = some (XO s') ∧ s' 3 = p.2.1 7 ∧ s' 18 = s 18) ∧ h' 12 = some (BA 60 (p.2.2 40)) ∧ XT p.2.2 h' ∧ (∃ q, h' 11 = some (FO q)) ∧ scX h' ∧ ∀ k, ¬ (k = 1 ∨ (3 ≤ k ∧ k ≤ 8) ∨ (11 ≤ k ∧ k ≤ 15)) → h' k = h k
theorem low8 (y : Int64) : y.toInt32.toInt8 = (y &&& 255).toInt8 := by
  apply Int8.toBitVec_inj.mp
  rw [Int32.toBitVec_toInt8, Int64.toBitVec_toInt32, Int64.toBitVec_toInt8, Int64.toBitVec_and]
  apply BitVec.eq_of_getLsbD_eq
  intro i hi
  have h2 : ∀ i, i < 8 → (255#64).getLsbD i = true := by decide
  have e : (255 : Int64).toBitVec.getLsbD i = true := h2 i hi
  simp only [BitVec.getLsbD_signExtend, BitVec.getLsbD_and, e, Bool.and_true, hi, decide_true, Bool.true_and, if_pos (show i < 64 by omega), if_pos (show i < 32 by omega), decide_eq_true (show i < 32 by omega)]
theorem i8_c : ∀ j, j < 127 → (lN j).toInt8.toInt32.toInt8.toInt32 = nI j := by decide +kernel
theorem ch_b {w : Int64} {x : Int32} (h : ¬ b2i (inL (chL w x) 32 126) = 0) : vp_nar .byte ((w >>> (((8 : Int32) * x).toInt64 &&& 63)).toInt32.toInt8.toInt32) = (chL w x).toInt32 := by
  obtain ⟨m, hm, e⟩ := and255 (w >>> (((8 : Int32) * x).toInt64 &&& 63))
  have h1 := b2i_1.mp h
  unfold chL at *
  rw [low8, e, lN_i]
  rw [e] at h1
  have h2 : m < 127 := by
    have h3 : inI (nI m) 32 126 = true := by rw [← inL_I, nI_l (by omega)]; exact h1
    have h4 := (inI_iff.mp h3).2
    have := (nI_leI (a := m) (b := 126) (by omega) (by omega)).mp h4
    omega
  exact i8_c m h2
theorem tyB_all {w : Int64} {m : Nat} (h : tyB w m 0 = 1) : ∀ j, j < m → ¬ b2i (inL (chL w (nI j)) 32 126) = 0 := by
  intro j hj e
  rw [tyB_0 e m 0 (by omega) (by omega)] at h
  exact absurd h (by decide)
set_option maxHeartbeats 600000 in
theorem lx_type2 {l : Launch} {G : GW} {h : AH} {n : Nat} {s : Nat → Int32} {T : Nat → Int32} {w : Int64} {tp m : Nat} (htp : tp + m ≤ 60) (hall : ∀ j, j < m → ¬ b2i (inL (chL w (nI j)) 32 126) = 0) {Q : Option Value → AH → Nat → Prop} (hq : Q (some (.int (nI (tp + m)))) (hov h [(12, BA 60 (tyT T w tp m m)), (1, XO (upd s 3 (nI (tp + m))))]) n) : ∀ (f k : Nat) (x : Int32), k + f = m → x = nI f - 1 → EW l G yX0_type cX0_type 5 (some .int) 2 0 0 Q 0 0 (hov h [(12, BA 60 (tyT T w tp m k)), (1, OB 0 (XOf (upd s 3 (nI (tp + k)))))]) n 71 [some (.ref 1), some (.long w), none, some (.int (nI m)), some (.int x)] [] := by
  intro f
  induction f with
  | zero =>
    intro k x hk hx
    refine ew_iload (t := 73) dX0_type_71 rfl rfl ?_
    refine ew_if_lt (t := 110) (t2 := 76) dX0_type_73 rfl rfl (fun c_73 => ?_) (fun c_73 => ?_)
    · refine ew_aload_n (t := 111) dX0_type_110 rfl rfl rfl ?_
      refine ew_get (t := 114) (j := 3) (v := .int (nI (tp + k))) fcX0 rfl (Nat.le_of_ble_eq_true rfl) q258 rfl dX0_type_111 rfl ?_
      exact ew_iret rfl dX0_type_114 (Nat.le_refl _) (Nat.le_refl _) (by rw [show k = m by omega]; exact hq)
    · exact absurd (by rw [hx]; decide) c_73
  | succ f ih =>
    intro k x hk hx
    refine ew_iload (t := 73) dX0_type_71 rfl rfl ?_
    refine ew_if_lt (t := 110) (t2 := 76) dX0_type_73 rfl rfl (fun c_73 => ?_) (fun c_73 => ?_)
    · exact absurd c_73 (by rw [hx, nI_m1]; exact nI_nlt (a := f) (b := 0) (by omega) (by omega))
    · refine ew_aload_n (t := 77) dX0_type_76 rfl rfl rfl ?_
      refine ew_get (t := 80) (j := 2) (v := .ref 12) fcX0 rfl (Nat.le_of_ble_eq_true rfl) q257 rfl dX0_type_77 rfl ?_
      refine ew_aload_n (t := 81) dX0_type_80 rfl rfl rfl ?_
      refine ew_get (t := 84) (j := 3) (v := .int (nI (tp + k))) fcX0 rfl (Nat.le_of_ble_eq_true rfl) q258 rfl dX0_type_81 rfl ?_
      refine ew_lload_n (t := 85) dX0_type_84 rfl rfl rfl ?_
      refine ew_bipush (t := 87) (v := 8) dX0_type_85 (by decide) rfl ?_
      refine ew_iload (t := 89) dX0_type_87 rfl rfl ?_
      refine ew_imul (t := 90) dX0_type_89 rfl ?_
      refine ew_lshr (t := 91) dX0_type_90 rfl ?_
      refine ew_l2i (t := 92) dX0_type_91 rfl ?_
      refine ew_i2b (t := 93) dX0_type_92 rfl ?_
      refine ew_bast (t := 94) (j := (tp + k)) (N := 60) (h' := (hov h [(12, BA 60 (upd (tyT T w tp m k) (tp + k) (vp_nar .byte (((w >>> ((8 * x).toInt64 &&& 63)).toInt32).toInt8.toInt32)))), (1, OB 0 (XOf (upd s 3 (nI (tp + k)))))])) rfl (vp_in_nI (by omega) (by omega)) (nI_clamp (by omega)) dX0_type_93 (hov_up rfl) rfl ?_
      refine ew_aload_n (t := 95) dX0_type_94 rfl rfl rfl ?_
      refine ew_dup (t := 96) dX0_type_95 rfl rfl ?_
      refine ew_get (t := 99) (j := 3) (v := .int (nI (tp + k))) fcX0 rfl (Nat.le_of_ble_eq_true rfl) q258 rfl dX0_type_96 rfl ?_
      refine ew_ic1 (t := 100) dX0_type_99 rfl ?_
      refine ew_iadd (t := 101) dX0_type_100 rfl ?_
      refine ew_put (t := 104) (j := 3) (fs' := XOf (upd s 3 ((nI (tp + k)) + 1))) (h' := (hov h [(12, BA 60 (upd (tyT T w tp m k) (tp + k) (vp_nar .byte (((w >>> ((8 * x).toInt64 &&& 63)).toInt32).toInt8.toInt32)))), (1, OB 0 (XOf (upd s 3 ((nI (tp + k)) + 1))))])) fcX0 rfl (Nat.le_of_ble_eq_true rfl) rfl q258 rfl rfl (Nat.le_of_ble_eq_true rfl) rfl dX0_type_101 (hov_up rfl) rfl ?_
      refine ew_iinc (t := 107) (x := x) (v := (x + (-1))) (L' := [some (.ref 1), some (.long w), none, some (.int (nI m)), some (.int (x + (-1)))]) dX0_type_104 rfl rfl (Nat.le_of_ble_eq_true rfl) rfl rfl ?_
      refine ew_goto (t := 71) dX0_type_107 rfl ?_
      rw [nI_1]
      have e : x = nI f := hx.trans (nI_m1 f)
      rw [show upd (tyT T w tp m k) (tp + k) (vp_nar .byte ((w >>> (((8 : Int32) * x).toInt64 &&& 63)).toInt32.toInt8.toInt32)) = tyT T w tp m (k + 1) from by rw [tyT, show m - 1 - k = f by omega, e, ch_b (hall f (by omega))]]
      exact ih (k + 1) _ (by omega) (by rw [e]; exact (Int32.sub_eq_add_neg _ _).symm)
theorem XYQ.same {s : Nat → Int32} {h : AH} {n : Nat} {v q : Int32} {sm : Nat → Int32} {F : Nat → Nat → Int32} (x1 : h 1 = some (XO s)) (h3 : s 3 = sm 7) (x11 : h 11 = some (FO q)) (x12 : h 12 = some (BA 60 (F 40))) (xt : XT F h) (sc : scX h) : XYQ s h n (v, sm, F) (some (.int v)) h n :=
  ⟨rfl, rfl, ⟨s, x1, h3, rfl⟩, x12, xt, ⟨q, x11⟩, sc, fun _ _ => rfl⟩
set_option maxHeartbeats 600000 in
theorem xc_type {l : Launch} {G : GW} {h : AH} {n : Nat} {s sm : Nat → Int32} {F : Nat → Nat → Int32} {tp : Nat} {q : Int32} (x1 : h 1 = some (XO s)) (x11 : h 11 = some (FO q)) (x12 : h 12 = some (BA 60 (F 40))) (xt : XT F h) (sc : scX h) (h3 : s 3 = nI tp) (h7 : sm 7 = nI tp) (htp : tp ≤ 60) (w : Int64) (nn : Int32) : AM l G yX0_type cX0_type 5 (some .int) 2 0 0 [.ref 1, .long w, .int nn] h n (XYQ s h n (typP sm F tp w nn)) := by
  refine AM.of (L := [some (.ref 1), some (.long w), none, some (.int nn), none]) (by decide) (Nat.le_of_ble_eq_true rfl) rfl ?_
  refine ew_iload_n (t := 1) dX0_type_0 rfl rfl rfl ?_
  refine ew_ic1 (t := 2) dX0_type_1 rfl ?_
  refine ew_bipush (t := 4) (v := 8) dX0_type_2 (by decide) rfl ?_
  refine ew_callS (t := 7) (As := [_, _, _]) (ax_isIn _ _ _) (lw_S q330 q331 q51 q332) naX0_isIn dX0_type_4 rfl (Nat.le_of_ble_eq_true rfl) (Nat.le_of_ble_eq_true rfl) (Nat.le_refl _) (Nat.le_refl _) (Nat.le_of_ble_eq_true rfl) rfl (qi ?_)
  refine ew_if_ne (t := 12) (t2 := 10) dX0_type_7 rfl rfl (fun c_7 => ?_) (fun c_7 => ?_)
  · obtain ⟨m, -, hm, rfl⟩ := inI_nat (c := nn) (lo := 1) (hi := 8) (by omega) (by omega) (b2i_1.mp c_7)
    refine ew_iload_n (t := 13) dX0_type_12 rfl rfl rfl ?_
    refine ew_ic1 (t := 14) dX0_type_13 rfl ?_
    refine ew_isub (t := 15) dX0_type_14 rfl ?_
    refine ew_istore (t := 17) (L' := [some (.ref 1), some (.long w), none, some (.int (nI m)), some (.int ((nI m) - 1))]) dX0_type_15 (Nat.le_of_ble_eq_true rfl) rfl rfl ?_
    refine lx_type1 hm (fun e => ?_) (fun hb => ?_) m (Nat.le_refl _) (fun j h1 h2 => by omega)
    · unfold typP
      rw [show inL (nI m).toInt64 1 8 = inI (nI m) 1 8 from inL_I (nI m) 1 8, if_pos c_7, nI_clamp (n := m) (by omega), if_pos e]
      exact XYQ.same x1 (h3.trans h7.symm) x11 x12 xt sc
    refine ew_aload_n (t := 53) dX0_type_52 rfl rfl rfl ?_
    refine ew_get (t := 56) (j := 3) (v := .int (s 3)) fcX0 x1 (Nat.le_of_ble_eq_true rfl) q258 rfl dX0_type_53 rfl ?_
    rw [h3]
    refine ew_iload_n (t := 57) dX0_type_56 rfl rfl rfl ?_
    refine ew_iadd (t := 58) dX0_type_57 rfl ?_
    refine ew_bipush (t := 60) (v := 60) dX0_type_58 (by decide) rfl ?_
    refine ew_icmp_le (t := 66) (t2 := 63) dX0_type_60 rfl rfl (fun c_60 => ?_) (fun c_60 => ?_)
    · refine ew_iload_n (t := 67) dX0_type_66 rfl rfl rfl ?_
      refine ew_ic1 (t := 68) dX0_type_67 rfl ?_
      refine ew_isub (t := 69) dX0_type_68 rfl ?_
      refine ew_istore (t := 71) (L' := [some (.ref 1), some (.long w), none, some (.int (nI m)), some (.int ((nI m) - 1))]) dX0_type_69 (Nat.le_of_ble_eq_true rfl) rfl rfl ?_
      have h60 : tp + m ≤ 60 := by have q := c_60; rw [nI_add] at q; exact (nI_leI (b := 60) (by omega) (by omega)).mp q
      refine EW.heap (h' := hov h [(12, BA 60 (F 40)), (1, XO (upd s 3 (nI (tp + 0))))]) (by rw [upd_same (s := s) (k := 3) (x := nI (tp + 0)) h3]; exact (hov_same2 x12 x1).symm) ?_
      refine lx_type2 (s := s) (T := F 40) (tp := tp) (m := m) h60 (tyB_all hb) ?_ m 0 (nI m - 1) (by omega) rfl
      unfold typP
      rw [show inL (nI m).toInt64 1 8 = inI (nI m) 1 8 from inL_I (nI m) 1 8, if_pos c_7, nI_clamp (n := m) (by omega), if_neg (by rw [hb]; decide), if_pos c_60]
      exact ⟨rfl, rfl, ⟨_, rfl, rfl, rfl⟩, rfl, ⟨xt.1, xt.2.1, xt.2.2.1, xt.2.2.2.1, xt.2.2.2.2.1, xt.2.2.2.2.2.1, xt.2.2.2.2.2.2⟩, ⟨q, x11⟩, sc, fun k hk => (hv_miss (by omega)).trans (hv_miss (by omega))⟩
    · refine ew_bipush (t := 65) (v := (-3)) dX0_type_63 (by decide) rfl ?_
      exact ew_iret rfl dX0_type_65 (Nat.le_refl _) (Nat.le_refl _) (by unfold typP; rw [show inL (nI m).toInt64 1 8 = inI (nI m) 1 8 from inL_I (nI m) 1 8, if_pos c_7, nI_clamp (n := m) (by omega), if_neg (by rw [hb]; decide), if_neg c_60]; exact XYQ.same x1 (h3.trans h7.symm) x11 x12 xt sc)
  · refine ew_icm1 (t := 11) dX0_type_10 rfl ?_
    exact ew_iret rfl dX0_type_11 (Nat.le_refl _) (Nat.le_refl _) (by unfold typP; rw [show inL nn.toInt64 1 8 = inI nn 1 8 from inL_I nn 1 8, if_neg (not_not_intro c_7)]; exact XYQ.same x1 (h3.trans h7.symm) x11 x12 xt sc)
