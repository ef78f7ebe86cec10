-- Obj fields dict_keys(['cls', 'fun', 'sname', 'refs', 'extra', 'ups'])
/-! the component: isKnown, the whole -/
set_option maxRecDepth 100000
set_option maxHeartbeats 600000 in
theorem xf_isKnown {l : Launch} {G : GW} {h : AH} {n : Nat} {s ce : Nat → Int32} {F : Nat → Nat → Int32} {a b H T S U g wd : Nat} (hn : 63 ≤ n) (x1 : h 1 = some (XO s)) (x16 : h 16 = some (IA 7 ce)) (xt : XT F h) (wk : WKc F a b H T S U g wd) (sc : scX h) {ln q r z bb : Nat} {f : Nat → Int32} (hq : q < n) (hr : r < n) (hl : ln < 3) (hz : z ≤ 16) (xq : h q = some (OB 3 [.ref r])) (xr_ : h r = some (rwA ln z f)) (hbz : bb + (H + 1) ≤ z) {IT : Nat → Int32} {b0 : Nat} (hI : ∀ j, j < H + 1 → f (bb + j) = IT (b0 + j)) : AM l G yX0_isKnown cX0_isKnown 5 (some .boolean) 33 2 9 [.ref 1, .ref q, .int (nI bb)] h n (XQ s h n (.int (knA IT b0 H (allW F 127 0 0 a b H T S U)))) := by
  refine AM.of (L := [some (.ref 1), some (.ref q), some (.int (nI bb)), none, none]) (by decide) (Nat.le_of_ble_eq_true rfl) rfl ?_
  refine ew_new (t := 3) (fs := [.null, .int 0]) (h' := (hov h [(n, OB 11 [.null, .int 0])])) fcX12 dX0_isKnown_0 q827 q828 q74 (by decide) (by decide) rfl hov_up0 rfl ?_
  refine ew_dup (t := 4) dX0_isKnown_3 rfl rfl ?_
  refine ew_callIN (t := 7) (As := []) (ax_i12 (h := (hov h [(n, OB 11 [.null, .int 0])])) (n := n + 1) (c := n) (by omega) hv_hit) q829 q830 q74 q831 rfl naX12_init dX0_isKnown_4 rfl (Nat.le_of_ble_eq_true rfl) (Nat.le_of_ble_eq_true rfl) (by omega) (by omega) (Nat.le_of_ble_eq_true rfl) rfl (qv ?_)
  refine EW.heap (h' := (hov h [(n, OB 11 [.ref (n + 1), .int 0]), ((n + 1), IA 7 (fun _ => 0))])) (hov_ov4 (by omega)) ?_
  refine ew_astore_n (t := 8) (L' := [some (.ref 1), some (.ref q), some (.int (nI bb)), some (.ref n), none]) dX0_isKnown_7 rfl (Nat.le_of_ble_eq_true rfl) rfl rfl ?_
  refine ew_ic0 (t := 9) dX0_isKnown_8 rfl ?_
  refine ew_istore (t := 11) (L' := [some (.ref 1), some (.ref q), some (.int (nI bb)), some (.ref n), some (.int 0)]) dX0_isKnown_9 (Nat.le_of_ble_eq_true rfl) rfl rfl ?_
  refine lx_isKnown (ce := ce) hn hq hr x1 xt hl hz xq xr_ hbz wk.2.2.2.2.1 wk.2.2.2.2.2.2.1 ?_ (H + 1) 0 (by omega)
  refine ew_aload_n (t := 45) dX0_isKnown_44 rfl rfl rfl ?_
  refine ew_aload_n (t := 46) dX0_isKnown_45 rfl rfl rfl ?_
  refine ew_icm1 (t := 47) dX0_isKnown_46 rfl ?_
  refine ew_ic1 (t := 48) dX0_isKnown_47 rfl ?_
  have kb : KB (knK h n (kcA f bb (H + 1))) (F 34) (frX (F 35)) (F 36) := by
    rintro x hb rfl; exact ⟨(below2 (by omega)).trans xt.1, (below2 (by omega)).trans xt.2.1, (below2 (by omega)).trans xt.2.2.1, (below2 (by omega)).trans xt.2.2.2.1⟩
  have ga := ax_goAll (l := l) (G := G) (n := (n + 1 + 1)) (K := knK h n (kcA f bb (H + 1))) (tS := (knT (kcA f bb (H + 1)) H)) (to := n) (x := false) kb (wk.cf FLG_k) (tl_K hn wk.2.2.2.2.1 wk.2.2.2.2.2.2.1 xt.1 xt.2.1) (by decide) wk.2.2.2.1 wk.2.2.1 (hb := (hov h [(n, OB 11 [.ref (n + 1), .int 0]), ((n + 1), IA 7 (kcA f bb (H + 1)))])) rfl s ce
  rw [XH_id (hb := (hov h [(n, OB 11 [.ref (n + 1), .int 0]), ((n + 1), IA 7 (kcA f bb (H + 1)))])) ((hv_miss (by omega)).trans ((hv_miss (by omega)).trans x1)) ((hv_miss (by omega)).trans ((hv_miss (by omega)).trans x16))] at ga
  refine ew_callV (t := 51) (As := [_, _, _]) (ga) (fcX0).1 ((hv_miss (by omega)).trans ((hv_miss (by omega)).trans x1)) (lw_V q421 q423 qs10 q51 q424) rfl naX0_goAll dX0_isKnown_48 rfl (Nat.le_of_ble_eq_true rfl) (Nat.le_of_ble_eq_true rfl) (by omega) (by omega) (Nat.le_of_ble_eq_true rfl) rfl (fun rr h9 n9 qq => ?_)
  obtain ⟨rfl, qn, hb', s', ce', hk', rfl, kp⟩ := qq
  replace qn := qn.symm
  subst qn
  cases hk'
  refine ew_aload_n (t := 52) dX0_isKnown_51 rfl rfl rfl ?_
  refine ew_getN (t := 55) (j := 1) (v := .int (b2i (foldW (knT (kcA f bb (H + 1)) H) false (allW F 127 0 0 a b H T S U)).1)) fcX12 ((XH_hi (by omega)).trans hv_hit) (Nat.le_of_ble_eq_true rfl) q836 rfl dX0_isKnown_52 rfl ?_
  exact ew_zret rfl (b2i_nar _) dX0_isKnown_55 (by decide) (by decide) (by rw [kn_A (I := IT) (b := b0) (fun j hj => (kcA_get (H + 1) hj).trans (hI j hj))]; exact XQ.of sc (fun k hk => below2 hk) hn (by omega) kp)
