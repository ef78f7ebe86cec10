-- Obj fields dict_keys(['cls', 'fun', 'sname', 'refs', 'extra', 'ups'])
/-! the component: heldBy -/
set_option maxRecDepth 100000
/-- tones 1 to k put away -/
def zrT (g : Nat → Int32) : Nat → Nat → Int32
  | 0 => g
  | k + 1 => upd (zrT g k) (k + 1) 0
theorem zrT_get {g : Nat → Int32} : ∀ k j, 1 ≤ j → j ≤ k → zrT g k j = 0
  | 0, j, h1, h2 => by omega
  | k + 1, j, h1, h2 => by
    rw [zrT]
    by_cases e : j = k + 1
    · rw [e, pk_us]
    · rw [pk_un e]; exact zrT_get k j h1 (by omega)
theorem rn_t {f g1 g2 : Nat → Int32} {a v : Nat} {nd : ND} {q : QD} (h : g1 (v + 1) = 0) : rnN f g1 0 0 a v nd q = rnN f g2 0 1 a v nd q := by
  unfold rnN ringI
  rw [h]
  rfl
theorem wy_t {f g1 g2 : Nat → Int32} {nf : Int32} {a T S U : Nat} (h : ∀ j, 1 ≤ j → j ≤ 6 → g1 j = 0) : ∀ r v nd, v + r ≤ 6 → wyN f g1 0 0 nf a T S U r v nd = wyN f g2 0 1 nf a T S U r v nd
  | 0, v, nd, _ => rfl
  | r + 1, v, nd, hv => by
    have e : ∀ q, goN f g1 0 0 nf a U v nd q = goN f g2 0 1 nf a U v nd q := by
      intro q
      unfold goN nxN
      rw [rn_t (g2 := g2) (h (v + 1) (by omega) (by omega))]
    rw [wyN, wyN]
    congr 1
    funext c
    rw [show goN f g1 0 0 nf a U v nd = goN f g2 0 1 nf a U v nd from funext e]
    cases (cdN T S v nd c).bind (goN f g2 0 1 nf a U v nd) with
    | none => rfl
    | some nd' => exact wy_t h r (v + 1) nd' (by omega)
theorem frX_hd {f I : Nat → Int32} {a b H k : Nat} (ha : a < 100) : upd (frX (hdR f I a b H k)) (k + 1) (if nI H < nI (k + 1) then -4 else nI (awayF a (I (b + (k + 1))).toNatClampNeg)) = frX (hdR f I a b H (k + 1)) := by
  rw [hdR, ← frX_up2]
  congr 1
  by_cases c : nI H < nI (k + 1)
  · rw [if_pos c, if_pos c, if_pos (by decide)]
  · rw [if_neg c, if_neg c, if_neg (nI_pos (Nat.lt_of_le_of_lt awayF_le (by decide)))]
set_option maxHeartbeats 600000 in
theorem lx_hb1 {l : Launch} {G : GW} {h : AH} {n : Nat} {s : Nat → Int32} {F34 f35 f36 : Nat → Int32} {a H : Nat} (x1 : h 1 = some (XO s)) (x2 : h 2 = some TO0) (x3 : h 3 = some (IA 8 F34)) (hF0 : F34 0 = nI a) (ha : a < 100) (hFH : F34 2 = nI H) (hH6 : H ≤ 6) {ln q r z bb b0 : Nat} {f IT : Nat → Int32} (hq : 29 ≤ q) (hr : 63 ≤ r) (hl : ln < 3) (hz : z ≤ 16) (xq : h q = some (OB 3 [.ref r])) (xr_ : h r = some (rwA ln z f)) (hbz : bb + (H + 1) ≤ z) (hI : ∀ j, j ≤ H → f (bb + j) = IT (b0 + j)) (hc : ∀ j, j ≤ H → IT (b0 + j) = nI (IT (b0 + j)).toNatClampNeg ∧ (IT (b0 + j)).toNatClampNeg < 100) {Q : Option Value → AH → Nat → Prop} (kk : EW l G yX0_heldBy cX0_heldBy 8 (some .int) 34 2 101 Q 0 0 (hov h [(4, IA 7 (frX (hdR f35 IT a b0 H 6))), (5, IA 7 (zrT f36 6))]) n 99 [some (.ref 1), some (.ref q), some (.int (nI bb)), some (.int (nI (6 + 1))), none, none, none, none] []) : ∀ (f1 k : Nat), k + f1 = 6 → EW l G yX0_heldBy cX0_heldBy 8 (some .int) 34 2 101 Q 0 0 (hov h [(4, IA 7 (frX (hdR f35 IT a b0 H k))), (5, IA 7 (zrT f36 k))]) n 38 [some (.ref 1), some (.ref q), some (.int (nI bb)), some (.int (nI (k + 1))), none, none, none, none] [] := by
  intro f1
  induction f1 with
  | zero =>
    intro k hk
    refine ew_iload_n (t := 39) dX0_heldBy_38 rfl rfl rfl ?_
    refine ew_bipush (t := 41) (v := 6) dX0_heldBy_39 (by decide) rfl ?_
    refine ew_icmp_gt (t := 99) (t2 := 44) dX0_heldBy_41 rfl rfl (fun c_41 => ?_) (fun c_41 => ?_)
    · obtain rfl : k = 6 := by omega
      exact kk
    · exact absurd (show (6 : Int32) < nI (k + 1) by rw [show k = 6 by omega]; decide) c_41
  | succ f1 ih =>
    intro k hk
    refine ew_iload_n (t := 39) dX0_heldBy_38 rfl rfl rfl ?_
    refine ew_bipush (t := 41) (v := 6) dX0_heldBy_39 (by decide) rfl ?_
    refine ew_icmp_gt (t := 99) (t2 := 44) dX0_heldBy_41 rfl rfl (fun c_41 => ?_) (fun c_41 => ?_)
    · exact absurd c_41 (Int32.not_lt.mpr (show nI (k + 1) ≤ 6 from (nI_leI (b := 6) (by omega) (by omega)).mpr (by omega)))
    · refine ew_aload_n (t := 45) dX0_heldBy_44 rfl rfl rfl ?_
      refine ew_get (t := 48) (j := 0) (v := .ref 2) fcX0 ((hv_miss (by omega)).trans ((hv_miss (by omega)).trans x1)) (Nat.le_of_ble_eq_true rfl) q255 rfl dX0_heldBy_45 rfl ?_
      refine ew_getN (t := 51) (j := 1) (v := .ref 4) fcX1 ((hv_miss (by omega)).trans ((hv_miss (by omega)).trans x2)) (Nat.le_of_ble_eq_true rfl) q129 rfl dX0_heldBy_48 rfl ?_
      refine ew_iload_n (t := 52) dX0_heldBy_51 rfl rfl rfl ?_
      refine ew_iload_n (t := 53) dX0_heldBy_52 rfl rfl rfl ?_
      refine ew_aload_n (t := 54) dX0_heldBy_53 rfl rfl rfl ?_
      refine ew_get (t := 57) (j := 0) (v := .ref 2) fcX0 ((hv_miss (by omega)).trans ((hv_miss (by omega)).trans x1)) (Nat.le_of_ble_eq_true rfl) q255 rfl dX0_heldBy_54 rfl ?_
      refine ew_callV (t := 60) (As := []) (ax_hours (h := (hov h [(4, IA 7 (frX (hdR f35 IT a b0 H k))), (5, IA 7 (zrT f36 k))])) ((hv_miss (by omega)).trans ((hv_miss (by omega)).trans x2)) ((hv_miss (by omega)).trans ((hv_miss (by omega)).trans x3))) (fcX1).1 ((hv_miss (by omega)).trans ((hv_miss (by omega)).trans x2)) (lw_V q446 q447 q448 q52 q449) rfl naX1_hours dX0_heldBy_57 rfl (Nat.le_of_ble_eq_true rfl) (Nat.le_of_ble_eq_true rfl) (by omega) (by omega) (Nat.le_of_ble_eq_true rfl) rfl (qi ?_)
      rw [hFH]
      refine ew_icmp_gt (t := 80) (t2 := 63) dX0_heldBy_60 rfl rfl (fun c_60 => ?_) (fun c_60 => ?_)
      · refine ew_bipush (t := 82) (v := (-4)) dX0_heldBy_80 (by decide) rfl ?_
        refine ew_iast (t := 83) (j := (k + 1)) (N := 7) (h' := (hov h [(4, IA 7 (upd (frX (hdR f35 IT a b0 H k)) (k + 1) (-4))), (5, IA 7 (zrT f36 k))])) hv_hit (vp_in_nI (by omega) (by omega)) (nI_clamp (by omega)) dX0_heldBy_82 hov_set_hit rfl ?_
        refine EW.heap (h' := (hov h [(4, IA 7 (frX (hdR f35 IT a b0 H (k + 1)))), (5, IA 7 (zrT f36 k))])) (by rw [← frX_hd ha, if_pos c_60]) ?_
        refine ew_aload_n (t := 84) dX0_heldBy_83 rfl rfl rfl ?_
        refine ew_get (t := 87) (j := 0) (v := .ref 2) fcX0 ((hv_miss (by omega)).trans ((hv_miss (by omega)).trans x1)) (Nat.le_of_ble_eq_true rfl) q255 rfl dX0_heldBy_84 rfl ?_
        refine ew_getN (t := 90) (j := 2) (v := .ref 5) fcX1 ((hv_miss (by omega)).trans ((hv_miss (by omega)).trans x2)) (Nat.le_of_ble_eq_true rfl) q131 rfl dX0_heldBy_87 rfl ?_
        refine ew_iload_n (t := 91) dX0_heldBy_90 rfl rfl rfl ?_
        refine ew_ic0 (t := 92) dX0_heldBy_91 rfl ?_
        refine ew_iast (t := 93) (j := (k + 1)) (N := 7) (h' := (hov h [(4, IA 7 (frX (hdR f35 IT a b0 H (k + 1)))), (5, IA 7 (upd (zrT f36 k) (k + 1) 0))])) ((hv_miss (by omega)).trans hv_hit) (vp_in_nI (by omega) (by omega)) (nI_clamp (by omega)) dX0_heldBy_92 (hov_set_miss (by omega) hov_set_hit) rfl ?_
        refine ew_iinc (t := 96) (x := (nI (k + 1))) (v := ((nI (k + 1)) + 1)) (L' := [some (.ref 1), some (.ref q), some (.int (nI bb)), some (.int ((nI (k + 1)) + 1)), none, none, none, none]) dX0_heldBy_93 rfl rfl (Nat.le_of_ble_eq_true rfl) rfl rfl ?_
        refine ew_goto (t := 38) dX0_heldBy_96 rfl ?_
        rw [nI_1 (k + 1)]
        exact ih (k + 1) (by omega)
      · have hk1 : k + 1 ≤ H := Nat.le_of_not_lt (fun q => c_60 (nI_lt q (by omega)))
        refine ew_aload_n (t := 64) dX0_heldBy_63 rfl rfl rfl ?_
        refine ew_get (t := 67) (j := 0) (v := .ref 2) fcX0 ((hv_miss (by omega)).trans ((hv_miss (by omega)).trans x1)) (Nat.le_of_ble_eq_true rfl) q255 rfl dX0_heldBy_64 rfl ?_
        refine ew_aload_n (t := 68) dX0_heldBy_67 rfl rfl rfl ?_
        refine ew_iload_n (t := 69) dX0_heldBy_68 rfl rfl rfl ?_
        refine ew_iload_n (t := 70) dX0_heldBy_69 rfl rfl rfl ?_
        refine ew_iadd (t := 71) dX0_heldBy_70 rfl ?_
        rw [nI_add bb (k + 1)]
        refine ew_callV (t := 74) (As := [_]) (ax_getR (h := (hov h [(4, IA 7 (frX (hdR f35 IT a b0 H k))), (5, IA 7 (zrT f36 k))])) hl ((hv_miss (by omega)).trans ((hv_miss (by omega)).trans xq)) ((hv_miss (by omega)).trans ((hv_miss (by omega)).trans xr_)) (show bb + (k + 1) < z by omega) hz) (fcX3).1 ((hv_miss (by omega)).trans ((hv_miss (by omega)).trans xq)) (lw_V q842 q843 q844 q59 q845) rfl naX3_get dX0_heldBy_71 rfl (Nat.le_of_ble_eq_true rfl) (Nat.le_of_ble_eq_true rfl) (by omega) (by omega) (Nat.le_of_ble_eq_true rfl) rfl (qi ?_)
        rw [hI (k + 1) hk1, (hc (k + 1) hk1).1]
        refine ew_callV (t := 77) (As := [_]) (ax_tfar (h := (hov h [(4, IA 7 (frX (hdR f35 IT a b0 H k))), (5, IA 7 (zrT f36 k))])) (b := (IT (b0 + (k + 1))).toNatClampNeg) ((hv_miss (by omega)).trans ((hv_miss (by omega)).trans x2)) ((hv_miss (by omega)).trans ((hv_miss (by omega)).trans x3)) hF0 ha (hc (k + 1) hk1).2) (fcX1).1 ((hv_miss (by omega)).trans ((hv_miss (by omega)).trans x2)) (lw_V q340 q341 q342 q52 q343) rfl naX1_far dX0_heldBy_74 rfl (Nat.le_of_ble_eq_true rfl) (Nat.le_of_ble_eq_true rfl) (by omega) (by omega) (Nat.le_of_ble_eq_true rfl) rfl (qi ?_)
        refine ew_goto (t := 82) dX0_heldBy_77 rfl ?_
        refine ew_iast (t := 83) (j := (k + 1)) (N := 7) (h' := (hov h [(4, IA 7 (upd (frX (hdR f35 IT a b0 H k)) (k + 1) (nI (awayF a (IT (b0 + (k + 1))).toNatClampNeg)))), (5, IA 7 (zrT f36 k))])) hv_hit (vp_in_nI (by omega) (by omega)) (nI_clamp (by omega)) dX0_heldBy_82 hov_set_hit rfl ?_
        refine EW.heap (h' := (hov h [(4, IA 7 (frX (hdR f35 IT a b0 H (k + 1)))), (5, IA 7 (zrT f36 k))])) (by rw [← frX_hd ha, if_neg c_60]) ?_
        refine ew_aload_n (t := 84) dX0_heldBy_83 rfl rfl rfl ?_
        refine ew_get (t := 87) (j := 0) (v := .ref 2) fcX0 ((hv_miss (by omega)).trans ((hv_miss (by omega)).trans x1)) (Nat.le_of_ble_eq_true rfl) q255 rfl dX0_heldBy_84 rfl ?_
        refine ew_getN (t := 90) (j := 2) (v := .ref 5) fcX1 ((hv_miss (by omega)).trans ((hv_miss (by omega)).trans x2)) (Nat.le_of_ble_eq_true rfl) q131 rfl dX0_heldBy_87 rfl ?_
        refine ew_iload_n (t := 91) dX0_heldBy_90 rfl rfl rfl ?_
        refine ew_ic0 (t := 92) dX0_heldBy_91 rfl ?_
        refine ew_iast (t := 93) (j := (k + 1)) (N := 7) (h' := (hov h [(4, IA 7 (frX (hdR f35 IT a b0 H (k + 1)))), (5, IA 7 (upd (zrT f36 k) (k + 1) 0))])) ((hv_miss (by omega)).trans hv_hit) (vp_in_nI (by omega) (by omega)) (nI_clamp (by omega)) dX0_heldBy_92 (hov_set_miss (by omega) hov_set_hit) rfl ?_
        refine ew_iinc (t := 96) (x := (nI (k + 1))) (v := ((nI (k + 1)) + 1)) (L' := [some (.ref 1), some (.ref q), some (.int (nI bb)), some (.int ((nI (k + 1)) + 1)), none, none, none, none]) dX0_heldBy_93 rfl rfl (Nat.le_of_ble_eq_true rfl) rfl rfl ?_
        refine ew_goto (t := 38) dX0_heldBy_96 rfl ?_
        rw [nI_1 (k + 1)]
        exact ih (k + 1) (by omega)
set_option maxHeartbeats 600000 in
theorem lx_hb2 {l : Launch} {G : GW} {h : AH} {n : Nat} {s ce : Nat → Int32} {F : Nat → Nat → Int32} {a b H T S U g wd : Nat} (hn : 63 ≤ n) (x1 : h 1 = some (XO s)) (x16 : h 16 = some (IA 7 ce)) (xt : XT F h) (wk : WKc F a b H T S U g wd) {q bb : Nat} {o3 : Option Value} {Q : Option Value → AH → Nat → Prop} (kk : ∀ s' ce', kpX s s' → EW l G yX0_heldBy cX0_heldBy 8 (some .int) 34 2 101 Q 2 101 (XH (hov h [(n, OB 10 [.ref (n + 1)]), (n + 1, JA 100 (waysS H g (allW F 0 0 0 a b H T S U) (fun _ => 0)))]) s' ce') (n + 1 + 1) 114 [some (.ref 1), some (.ref q), some (.int (nI bb)), some (.ref n), none, none, none, none] []) : EW l G yX0_heldBy cX0_heldBy 8 (some .int) 34 2 101 Q 0 0 h n 99 [some (.ref 1), some (.ref q), some (.int (nI bb)), o3, none, none, none, none] [] := by
  refine ew_new (t := 102) (fs := [.null]) (h' := (hov h [(n, OB 10 [.null])])) fcX11 dX0_heldBy_99 q738 q739 q73 (by decide) (by decide) rfl hov_up0 rfl ?_
  refine ew_dup (t := 103) dX0_heldBy_102 rfl rfl ?_
  refine ew_callIN (t := 106) (As := []) (ax_i11 (h := (hov h [(n, OB 10 [.null])])) (n := n + 1) (c := n) (by omega) hv_hit) q740 q741 q73 q742 rfl naX11_init dX0_heldBy_103 rfl (Nat.le_of_ble_eq_true rfl) (Nat.le_of_ble_eq_true rfl) (by omega) (by omega) (Nat.le_of_ble_eq_true rfl) rfl (qv ?_)
  refine EW.heap (h' := (hov h [(n, OB 10 [.ref (n + 1)]), ((n + 1), JA 100 (fun _ => 0))])) (hov_ov4 (by omega)) ?_
  refine ew_astore_n (t := 107) (L' := [some (.ref 1), some (.ref q), some (.int (nI bb)), some (.ref n), none, none, none, none]) dX0_heldBy_106 rfl (Nat.le_of_ble_eq_true rfl) rfl rfl ?_
  refine ew_aload_n (t := 108) dX0_heldBy_107 rfl rfl rfl ?_
  refine ew_aload_n (t := 109) dX0_heldBy_108 rfl rfl rfl ?_
  refine ew_icm1 (t := 110) dX0_heldBy_109 rfl ?_
  refine ew_ic0 (t := 111) dX0_heldBy_110 rfl ?_
  have kb : KB (enK h n) (F 34) (frX (F 35)) (F 36) := by
    rintro x hb rfl; exact ⟨(below2 (by omega)).trans xt.1, (below2 (by omega)).trans xt.2.1, (below2 (by omega)).trans xt.2.2.1, (below2 (by omega)).trans xt.2.2.2.1⟩
  have ga := ax_goAll (l := l) (G := G) (n := (n + 1 + 1)) (K := enK h n) (tS := (enT H g)) (to := n) (x := (fun _ => 0)) kb (wk.cf FLG_0) (tl_E hn wk.2.2.2.2.1 wk.2.2.2.2.2.2.1 wk.2.2.2.2.2.2.2.2.2.2.2.2.2.1 wk.2.2.2.2.2.2.2.2.2.2.2.2.2.2.1 xt.1 xt.2.1) (by decide) wk.2.2.2.1 wk.2.2.1 (hb := (hov h [(n, OB 10 [.ref (n + 1)]), ((n + 1), JA 100 (fun _ => 0))])) rfl s ce
  rw [XH_id (hb := (hov h [(n, OB 10 [.ref (n + 1)]), ((n + 1), JA 100 (fun _ => 0))])) ((hv_miss (by omega)).trans ((hv_miss (by omega)).trans x1)) ((hv_miss (by omega)).trans ((hv_miss (by omega)).trans x16))] at ga
  refine ew_callV (t := 114) (As := [_, _, _]) (ga) (fcX0).1 ((hv_miss (by omega)).trans ((hv_miss (by omega)).trans x1)) (lw_V q421 q423 qs10 q51 q424) rfl naX0_goAll dX0_heldBy_111 rfl (Nat.le_of_ble_eq_true rfl) (Nat.le_of_ble_eq_true rfl) (by omega) (by omega) (Nat.le_of_ble_eq_true rfl) rfl (fun rr h9 n9 qq => ?_)
  obtain ⟨rfl, qn, hb', s', ce', hk', rfl, kp⟩ := qq
  replace qn := qn.symm
  subst qn
  rw [fold_E] at hk'
  cases hk'
  exact kk s' ce' kp
