-- Obj fields dict_keys(['cls', 'fun', 'sname', 'refs', 'extra', 'ups'])
/-! the component: film's loop -/
set_option maxRecDepth 100000
theorem nr_c : ∀ c, c < 100 → (nI c).toInt8.toInt32 = nI c ∧ (nI c).toInt16.toInt32 = nI c := by decide +kernel
theorem ax_setR {l : Launch} {G : GW} {h : AH} {n : Nat} {ln q r z j c : Nat} {f : Nat → Int32} (hl : ln < 3) (xq : h q = some (OB 3 [.ref r])) (xr_ : h r = some (rwA ln z f)) (hj : j < z) (hz : z ≤ 16) (hc : c < 100) : AM l G yX3_set cX3_set 6 none 0 0 0 [.ref q, .int (nI j), .int (nI c)] h n (Qv (hov h [(r, rwA ln z (upd f j (nI c)))]) n) := by
  match ln, hl with
  | 0, _ => have := ax_setS0 (l := l) (G := G) (n := n) (v := nI c) xq xr_ hj hz; rw [(nr_c c hc).1] at this; exact this
  | 1, _ => have := ax_setS1 (l := l) (G := G) (n := n) (v := nI c) xq xr_ hj hz; rw [(nr_c c hc).2] at this; exact this
  | 2, _ => exact ax_setS2 xq xr_ hj hz
set_option maxHeartbeats 600000 in
theorem lx_film {l : Launch} {G : GW} {h : AH} {n : Nat} {s FS sc' : Nat → Int32} {ln r z bb t p u H : Nat} {f : Nat → Int32} {w : WY} {ki lane v5 g0 g1 g2 g3 : Int32} (hr : 63 ≤ r) (hpr : ¬ p = r) (hur : ¬ u = r) (x1 : h 1 = some (XO s)) (x2 : h 2 = some TO0) (x3 : h 3 = some (IA 8 FS)) (x28 : h 28 = some (RS 4 shT)) (ht : t < 4) (hl : ln < 3) (hz : z ≤ 16) (xq : h (29 + t) = some (OB 3 [.ref r])) (xp : h p = some (OB 6 [.int g0, .int g1, .int g2, .int g3, .ref u])) (xu : h u = some (IA 7 sc')) (hsc : ∀ j, j ≤ H → sc' j = nI (w.1 j)) (hw : ∀ j, j ≤ H → w.1 j < 100) (hbz : bb + (H + 1) ≤ z) (hFH : FS 2 = nI H) (hH6 : H ≤ 6) {Q : Option Value → AH → Nat → Prop} (kk : EW l G yX0_film cX0_film 8 (some .int) 33 2 12 Q 2 12 (hov h [(r, rwA ln z (flI f w bb (H + 1)))]) n 99 [some (.ref 1), some (.int ki), some (.int (nI t)), some (.int lane), some (.int (nI bb)), some (.int v5), some (.ref p), some (.int (nI (H + 1)))] []) : ∀ (f1 k : Nat), k + f1 = H + 1 → EW l G yX0_film cX0_film 8 (some .int) 33 2 12 Q 2 12 (hov h [(r, rwA ln z (flI f w bb k))]) n 59 [some (.ref 1), some (.int ki), some (.int (nI t)), some (.int lane), some (.int (nI bb)), some (.int v5), some (.ref p), some (.int (nI k))] [] := by
  intro f1
  induction f1 with
  | zero =>
    intro k hk
    refine ew_iload (t := 61) dX0_film_59 rfl rfl ?_
    refine ew_aload_n (t := 62) dX0_film_61 rfl rfl rfl ?_
    refine ew_get (t := 65) (j := 0) (v := .ref 2) fcX0 ((hv_miss (by omega)).trans x1) (Nat.le_of_ble_eq_true rfl) q255 rfl dX0_film_62 rfl ?_
    refine ew_callV (t := 68) (As := []) (ax_hours ((hv_miss (by omega)).trans x2) ((hv_miss (by omega)).trans x3)) (fcX1).1 ((hv_miss (by omega)).trans x2) (lw_V q446 q447 q448 q52 q449) rfl naX1_hours dX0_film_65 rfl (Nat.le_of_ble_eq_true rfl) (Nat.le_of_ble_eq_true rfl) (by omega) (by omega) (Nat.le_of_ble_eq_true rfl) rfl (qi ?_)
    rw [hFH]
    refine ew_icmp_gt (t := 99) (t2 := 71) dX0_film_68 rfl rfl (fun c_68 => ?_) (fun c_68 => ?_)
    · have ek : k = H + 1 := by omega
      subst ek
      exact kk
    · exact absurd (nI_lt (by omega) (by omega)) c_68
  | succ f1 ih =>
    intro k hk
    refine ew_iload (t := 61) dX0_film_59 rfl rfl ?_
    refine ew_aload_n (t := 62) dX0_film_61 rfl rfl rfl ?_
    refine ew_get (t := 65) (j := 0) (v := .ref 2) fcX0 ((hv_miss (by omega)).trans x1) (Nat.le_of_ble_eq_true rfl) q255 rfl dX0_film_62 rfl ?_
    refine ew_callV (t := 68) (As := []) (ax_hours ((hv_miss (by omega)).trans x2) ((hv_miss (by omega)).trans x3)) (fcX1).1 ((hv_miss (by omega)).trans x2) (lw_V q446 q447 q448 q52 q449) rfl naX1_hours dX0_film_65 rfl (Nat.le_of_ble_eq_true rfl) (Nat.le_of_ble_eq_true rfl) (by omega) (by omega) (Nat.le_of_ble_eq_true rfl) rfl (qi ?_)
    rw [hFH]
    refine ew_icmp_gt (t := 99) (t2 := 71) dX0_film_68 rfl rfl (fun c_68 => ?_) (fun c_68 => ?_)
    · exact absurd c_68 (Int32.not_lt.mpr (nI_le (by omega) (by omega)))
    · refine ew_aload_n (t := 72) dX0_film_71 rfl rfl rfl ?_
      refine ew_get (t := 75) (j := 20) (v := .ref 28) fcX0 ((hv_miss (by omega)).trans x1) (Nat.le_of_ble_eq_true rfl) q282 rfl dX0_film_72 rfl ?_
      refine ew_iload_n (t := 76) dX0_film_75 rfl rfl rfl ?_
      refine ew_aald6 (t := 77) (j := t) ((hv_miss (by omega)).trans x28) (vp_in_nI ht (by omega)) (nI_clamp (by omega)) dX0_film_76 rfl ?_
      rw [show va_rf (shT t) = .ref (29 + t) from rfl]
      refine ew_iload (t := 79) dX0_film_77 rfl rfl ?_
      refine ew_iload (t := 81) dX0_film_79 rfl rfl ?_
      refine ew_iadd (t := 82) dX0_film_81 rfl ?_
      rw [show nI bb + nI k = nI (bb + k) from nI_add _ _]
      refine ew_aload (t := 84) dX0_film_82 rfl rfl ?_
      refine ew_getN (t := 87) (j := 4) (v := .ref u) fcX7 ((hv_miss (by omega)).trans xp) (Nat.le_of_ble_eq_true rfl) q512 rfl dX0_film_84 rfl ?_
      refine ew_iload (t := 89) dX0_film_87 rfl rfl ?_
      refine ew_iald (t := 90) (j := k) (N := 7) ((hv_miss (by omega)).trans xu) (vp_in_nI (by omega) (by omega)) (nI_clamp (by omega)) dX0_film_89 rfl ?_
      rw [hsc k (by omega)]
      refine ew_callV (t := 93) (As := [_, _]) (ax_setR (h := (hov h [(r, rwA ln z (flI f w bb k))])) hl ((hv_miss (by omega)).trans xq) hv_hit (show bb + k < z by omega) hz (hw k (by omega))) (fcX3).1 ((hv_miss (by omega)).trans xq) (lw_V q854 q855 q856 q59 q857) rfl naX3_set dX0_film_90 rfl (Nat.le_of_ble_eq_true rfl) (Nat.le_of_ble_eq_true rfl) (by omega) (by omega) (Nat.le_of_ble_eq_true rfl) rfl (qv ?_)
      refine EW.heap (h' := (hov h [(r, rwA ln z (upd (flI f w bb k) (bb + k) (nI (w.1 k))))])) hov_ov1 ?_
      refine ew_iinc (t := 96) (x := (nI k)) (v := ((nI k) + 1)) (L' := [some (.ref 1), some (.int ki), some (.int (nI t)), some (.int lane), some (.int (nI bb)), some (.int v5), some (.ref p), some (.int ((nI k) + 1))]) dX0_film_93 rfl rfl (Nat.le_of_ble_eq_true rfl) rfl rfl ?_
      refine ew_goto (t := 59) dX0_film_96 rfl ?_
      rw [nI_1]
      exact ih (k + 1) (by omega)
