-- Obj fields dict_keys(['cls', 'fun', 'sname', 'refs', 'extra', 'ups'])
/-! the component: isKnown -/
set_option maxRecDepth 100000
theorem FLG_k : FLG (-1) 1 127 0 0 := by
  unfold FLG
  decide +kernel
theorem kn_w {w : WY} {I kc : Nat → Int32} {b : Nat} : ∀ k, (∀ j, j < k → kc j = I (b + j)) → b2i (knW kc w k) = knF w I b k
  | 0, _ => rfl
  | k + 1, h => by
    have ih := kn_w (w := w) k (fun j hj => h j (by omega))
    show b2i (knW kc w k && decide (nI (w.1 k) = kc k)) = if knF w I b k = 0 then 0 else if ¬ nI (w.1 k) = I (b + k) then 0 else 1
    rw [← ih, h k (by omega)]
    cases knW kc w k
    · rw [if_pos (show b2i false = 0 from rfl)]; rfl
    · rw [if_neg (show ¬ b2i true = 0 by decide)]
      by_cases e : nI (w.1 k) = I (b + k)
      · rw [if_neg (not_not_intro e), decide_eq_true e]; rfl
      · rw [if_pos e, decide_eq_false e]; rfl
theorem kn_A {I kc : Nat → Int32} {b H : Nat} (h : ∀ j, j < H + 1 → kc j = I (b + j)) : ∀ ws : List WY, b2i (foldW (knT kc H) false ws).1 = knA I b H ws
  | [] => rfl
  | w :: ws => by
    have e := kn_w (w := w) (H + 1) h
    show b2i (if (!(false || knW kc w (H + 1))) = true then foldW (knT kc H) (false || knW kc w (H + 1)) ws else (false || knW kc w (H + 1), false)).1 = if knF w I b (H + 1) = 0 then knA I b H ws else 1
    rw [← e, Bool.false_or]
    cases knW kc w (H + 1)
    · rw [if_pos (show b2i false = 0 from rfl), if_pos (show (!false) = true from rfl)]; exact kn_A h ws
    · rw [if_neg (show ¬ b2i true = 0 by decide), if_neg (show ¬ (!true) = true by decide)]; rfl
def kcA (f : Nat → Int32) (bb : Nat) : Nat → Nat → Int32
  | 0 => fun _ => 0
  | k + 1 => upd (kcA f bb k) k (f (bb + k))
theorem kcA_get {f : Nat → Int32} {bb j : Nat} : ∀ k, j < k → kcA f bb k j = f (bb + j)
  | 0, h => by omega
  | k + 1, h => by
    show upd (kcA f bb k) k (f (bb + k)) j = _
    by_cases e : j = k
    · subst e; rw [pk_us]
    · rw [pk_un e]; exact kcA_get k (by omega)
theorem ax_getR {l : Launch} {G : GW} {h : AH} {n : Nat} {ln q r z j : Nat} {f : Nat → Int32} (hl : ln < 3) (xq : h q = some (OB 3 [.ref r])) (xr_ : h r = some (rwA ln z f)) (hj : j < z) (hz : z ≤ 16) : AM l G yX3_get cX3_get 4 (some .int) 0 0 0 [.ref q, .int (nI j)] h n (Qi (f j) h n) := by
  match ln, hl with
  | 0, _ => exact ax_get0 xq xr_ hj hz
  | 1, _ => exact ax_get1 xq xr_ hj hz
  | 2, _ => exact ax_get2 xq xr_ hj hz
set_option maxHeartbeats 600000 in
theorem lx_isKnown {l : Launch} {G : GW} {h : AH} {n : Nat} {s ce : Nat → Int32} {F : Nat → Nat → Int32} {ln q r z bb H : Nat} {f : Nat → Int32} (hn : 63 ≤ n) (hq : q < n) (hr : r < n) (x1 : h 1 = some (XO s)) (xt : XT F h) (hl : ln < 3) (hz : z ≤ 16) (xq : h q = some (OB 3 [.ref r])) (xr_ : h r = some (rwA ln z f)) (hbz : bb + (H + 1) ≤ z) (hFH : F 34 2 = nI H) (hH6 : H ≤ 6) {Q : Option Value → AH → Nat → Prop} (kk : EW l G yX0_isKnown cX0_isKnown 5 (some .boolean) 33 2 9 Q 2 9 (hov h [(n, OB 11 [.ref (n + 1), .int 0]), ((n + 1), IA 7 (kcA f bb (H + 1)))]) (n + 1 + 1) 44 [some (.ref 1), some (.ref q), some (.int (nI bb)), some (.ref n), some (.int (nI (H + 1)))] []) : ∀ (f1 k : Nat), k + f1 = H + 1 → EW l G yX0_isKnown cX0_isKnown 5 (some .boolean) 33 2 9 Q 2 9 (hov h [(n, OB 11 [.ref (n + 1), .int 0]), ((n + 1), IA 7 (kcA f bb k))]) (n + 1 + 1) 11 [some (.ref 1), some (.ref q), some (.int (nI bb)), some (.ref n), some (.int (nI k))] [] := by
  intro f1
  induction f1 with
  | zero =>
    intro k hk
    refine ew_iload (t := 13) dX0_isKnown_11 rfl rfl ?_
    refine ew_aload_n (t := 14) dX0_isKnown_13 rfl rfl rfl ?_
    refine ew_get (t := 17) (j := 0) (v := .ref 2) fcX0 ((hv_miss (by omega)).trans ((hv_miss (by omega)).trans x1)) (Nat.le_of_ble_eq_true rfl) q255 rfl dX0_isKnown_14 rfl ?_
    refine ew_callV (t := 20) (As := []) (ax_hours ((hv_miss (by omega)).trans ((hv_miss (by omega)).trans xt.1)) ((hv_miss (by omega)).trans ((hv_miss (by omega)).trans xt.2.1))) (fcX1).1 ((hv_miss (by omega)).trans ((hv_miss (by omega)).trans xt.1)) (lw_V q446 q447 q448 q52 q449) rfl naX1_hours dX0_isKnown_17 rfl (Nat.le_of_ble_eq_true rfl) (Nat.le_of_ble_eq_true rfl) (by omega) (by omega) (Nat.le_of_ble_eq_true rfl) rfl (qi ?_)
    rw [hFH]
    refine ew_icmp_gt (t := 44) (t2 := 23) dX0_isKnown_20 rfl rfl (fun c_20 => ?_) (fun c_20 => ?_)
    · have ek : k = H + 1 := by omega
      subst ek
      exact kk
    · exact absurd (nI_lt (by omega) (by omega)) c_20
  | succ f1 ih =>
    intro k hk
    refine ew_iload (t := 13) dX0_isKnown_11 rfl rfl ?_
    refine ew_aload_n (t := 14) dX0_isKnown_13 rfl rfl rfl ?_
    refine ew_get (t := 17) (j := 0) (v := .ref 2) fcX0 ((hv_miss (by omega)).trans ((hv_miss (by omega)).trans x1)) (Nat.le_of_ble_eq_true rfl) q255 rfl dX0_isKnown_14 rfl ?_
    refine ew_callV (t := 20) (As := []) (ax_hours ((hv_miss (by omega)).trans ((hv_miss (by omega)).trans xt.1)) ((hv_miss (by omega)).trans ((hv_miss (by omega)).trans xt.2.1))) (fcX1).1 ((hv_miss (by omega)).trans ((hv_miss (by omega)).trans xt.1)) (lw_V q446 q447 q448 q52 q449) rfl naX1_hours dX0_isKnown_17 rfl (Nat.le_of_ble_eq_true rfl) (Nat.le_of_ble_eq_true rfl) (by omega) (by omega) (Nat.le_of_ble_eq_true rfl) rfl (qi ?_)
    rw [hFH]
    refine ew_icmp_gt (t := 44) (t2 := 23) dX0_isKnown_20 rfl rfl (fun c_20 => ?_) (fun c_20 => ?_)
    · exact absurd c_20 (Int32.not_lt.mpr (nI_le (by omega) (by omega)))
    · refine ew_aload_n (t := 24) dX0_isKnown_23 rfl rfl rfl ?_
      refine ew_getN (t := 27) (j := 0) (v := .ref (n + 1)) fcX12 hv_hit (Nat.le_of_ble_eq_true rfl) q834 rfl dX0_isKnown_24 rfl ?_
      refine ew_iload (t := 29) dX0_isKnown_27 rfl rfl ?_
      refine ew_aload_n (t := 30) dX0_isKnown_29 rfl rfl rfl ?_
      refine ew_iload_n (t := 31) dX0_isKnown_30 rfl rfl rfl ?_
      refine ew_iload (t := 33) dX0_isKnown_31 rfl rfl ?_
      refine ew_iadd (t := 34) dX0_isKnown_33 rfl ?_
      rw [show nI bb + nI k = nI (bb + k) from nI_add _ _]
      refine ew_callV (t := 37) (As := [_]) (ax_getR hl ((hv_miss (by omega)).trans ((hv_miss (by omega)).trans xq)) ((hv_miss (by omega)).trans ((hv_miss (by omega)).trans xr_)) (show bb + k < z by omega) hz) (fcX3).1 ((hv_miss (by omega)).trans ((hv_miss (by omega)).trans xq)) (lw_V q842 q843 q844 q59 q845) rfl naX3_get dX0_isKnown_34 rfl (Nat.le_of_ble_eq_true rfl) (Nat.le_of_ble_eq_true rfl) (by omega) (by omega) (Nat.le_of_ble_eq_true rfl) rfl (qi ?_)
      refine ew_iast (t := 38) (j := k) (N := 7) (h' := (hov h [(n, OB 11 [.ref (n + 1), .int 0]), ((n + 1), IA 7 (upd (kcA f bb k) k (f (bb + k))))])) ((hv_miss (by omega)).trans hv_hit) (vp_in_nI (by omega) (by omega)) (nI_clamp (by omega)) dX0_isKnown_37 (hov_set_miss (by omega) hov_set_hit) rfl ?_
      refine ew_iinc (t := 41) (x := (nI k)) (v := ((nI k) + 1)) (L' := [some (.ref 1), some (.ref q), some (.int (nI bb)), some (.ref n), some (.int ((nI k) + 1))]) dX0_isKnown_38 rfl rfl (Nat.le_of_ble_eq_true rfl) rfl rfl ?_
      refine ew_goto (t := 11) dX0_isKnown_41 rfl ?_
      rw [nI_1]
      exact ih (k + 1) (by omega)
