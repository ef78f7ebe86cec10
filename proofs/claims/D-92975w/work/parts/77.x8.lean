-- Obj fields dict_keys(['cls', 'fun', 'sname', 'refs', 'extra', 'ups'])
/-! the component: Ender.way -/
set_option maxRecDepth 100000
theorem gn_0 : ∀ e, e < 100 → ∀ co, co < 8 → goneF (nI e) (nI co) (nI 0) = nI e := by decide +kernel
theorem gn_1 : ∀ e, e < 100 → ∀ co, co < 8 → ∀ k, k < 3 → ((¬ goneF (nI e) (nI co) (nI k) < 0 → goneF (goneF (nI e) (nI co) (nI k)) (nI co) 1 = goneF (nI e) (nI co) (nI (k + 1))) ∧ (goneF (nI e) (nI co) (nI k) < 0 → goneF (nI e) (nI co) (nI (k + 1)) < 0)) := by decide +kernel
theorem gl_stop {e co g : Nat} {own : Int64} {f : Nat → Int64} (he : e < 100) (hco : co < 8) (hg : g ≤ 3) : ∀ d k, k + d = g → goneF (nI e) (nI co) (nI k) < 0 → glF (nI e) (nI co) own f g = glF (nI e) (nI co) own f k
  | 0, k, hk, _ => by rw [show k = g by omega]
  | d + 1, k, hk, h => by
    have h1 := (gn_1 e he co hco k (by omega)).2 h
    rw [gl_stop he hco hg d (k + 1) (by omega) h1, glF, if_pos h1]
set_option maxHeartbeats 600000 in
theorem lx_wayE {l : Launch} {G : GW} {h : AH} {n : Nat} {to : Nat} (hto : 63 ≤ to) {ce s FS : Nat → Int32} {f : Nat → Int64} {H e co g : Nat} {wt : Int32} (hH : FS 2 = nI H) (hH6 : H ≤ 6) (hce : ce H = nI e) (he : e < 100) (h9 : s 9 = nI co) (hco : co < 8) (hg : FS 6 = nI g) (hg3 : g ≤ 3) (x1 : h 1 = some (XO s)) (x16 : h 16 = some (IA 7 ce)) (x2 : h 2 = some TO0) (x3 : h 3 = some (IA 8 FS)) (xt : h to = some (OB 10 [.ref (to + 1)])) : ∀ (f1 k : Nat), k + f1 = g → EW l G yX11_way cX11_way 6 (some .boolean) 2 0 0 (Qi 1 (hov h [((to + 1), JA 100 (glF (nI e) (nI co) wt.toInt64 (vp_updL f e (f e + (2 * wt.toInt64))) g))]) n) 0 0 (hov h [((to + 1), JA 100 (glF (nI e) (nI co) wt.toInt64 (vp_updL f e (f e + (2 * wt.toInt64))) k))]) n 34 [some (.ref to), some (.ref 1), some (.int wt), some (.int (nI e)), some (.int (goneF (nI e) (nI co) (nI k))), some (.int (nI k))] [] := by
  intro f1
  induction f1 with
  | zero =>
    intro k hk
    refine ew_iload (t := 36) dX11_way_34 rfl rfl ?_
    refine ew_aload_n (t := 37) dX11_way_36 rfl rfl rfl ?_
    refine ew_getN (t := 40) (j := 0) (v := .ref 2) fcX0 ((hv_miss (by omega)).trans x1) (Nat.le_of_ble_eq_true rfl) q253 rfl dX11_way_37 rfl ?_
    refine ew_getN (t := 43) (j := 0) (v := .ref 3) fcX1 ((hv_miss (by omega)).trans x2) (Nat.le_of_ble_eq_true rfl) q126 rfl dX11_way_40 rfl ?_
    refine ew_bipush (t := 45) (v := 6) dX11_way_43 (by decide) rfl ?_
    refine ew_iald (t := 46) (j := 6) (N := 8) ((hv_miss (by omega)).trans x3) (vpI (by decide)) (by decide) dX11_way_45 rfl ?_
    rw [hg]
    refine ew_icmp_ge (t := 89) (t2 := 49) dX11_way_46 rfl rfl (fun c_46 => ?_) (fun c_46 => ?_)
    · refine ew_ic1 (t := 90) dX11_way_89 rfl ?_
      exact ew_zret rfl (by decide) dX11_way_90 (Nat.le_refl _) (Nat.le_refl _) ⟨rfl, by rw [show k = g by omega], rfl⟩
    · exact absurd (show nI g ≤ nI k by rw [show k = g by omega]; exact Int32.le_refl _) c_46
  | succ f1 ih =>
    intro k hk
    refine ew_iload (t := 36) dX11_way_34 rfl rfl ?_
    refine ew_aload_n (t := 37) dX11_way_36 rfl rfl rfl ?_
    refine ew_getN (t := 40) (j := 0) (v := .ref 2) fcX0 ((hv_miss (by omega)).trans x1) (Nat.le_of_ble_eq_true rfl) q253 rfl dX11_way_37 rfl ?_
    refine ew_getN (t := 43) (j := 0) (v := .ref 3) fcX1 ((hv_miss (by omega)).trans x2) (Nat.le_of_ble_eq_true rfl) q126 rfl dX11_way_40 rfl ?_
    refine ew_bipush (t := 45) (v := 6) dX11_way_43 (by decide) rfl ?_
    refine ew_iald (t := 46) (j := 6) (N := 8) ((hv_miss (by omega)).trans x3) (vpI (by decide)) (by decide) dX11_way_45 rfl ?_
    rw [hg]
    refine ew_icmp_ge (t := 89) (t2 := 49) dX11_way_46 rfl rfl (fun c_46 => ?_) (fun c_46 => ?_)
    · exact absurd c_46 (nI_ge (by omega) (by omega))
    · refine ew_iload (t := 51) dX11_way_49 rfl rfl ?_
      refine ew_if_lt (t := 89) (t2 := 54) dX11_way_51 rfl rfl (fun c_51 => ?_) (fun c_51 => ?_)
      · refine ew_ic1 (t := 90) dX11_way_89 rfl ?_
        exact ew_zret rfl (by decide) dX11_way_90 (Nat.le_refl _) (Nat.le_refl _) ⟨rfl, by rw [gl_stop he hco hg3 (f1 + 1) k hk c_51], rfl⟩
      · refine ew_iload (t := 56) dX11_way_54 rfl rfl ?_
        refine ew_aload_n (t := 57) dX11_way_56 rfl rfl rfl ?_
        refine ew_getN (t := 60) (j := 9) (v := .int (s 9)) fcX0 ((hv_miss (by omega)).trans x1) (Nat.le_of_ble_eq_true rfl) q268 rfl dX11_way_57 rfl ?_
        rw [h9]
        refine ew_ic1 (t := 61) dX11_way_60 rfl ?_
        refine ew_callSN (t := 64) (As := [_, _, _]) (ax_beyond _ _ (co := co) hco) q465 q430 q51 q431 naX0_beyond dX11_way_61 rfl (Nat.le_of_ble_eq_true rfl) (Nat.le_of_ble_eq_true rfl) (Nat.le_refl _) (Nat.le_refl _) (Nat.le_of_ble_eq_true rfl) rfl (qi ?_)
        rw [(gn_1 e he co hco k (by omega)).1 c_51]
        refine ew_istore (t := 66) (L' := [some (.ref to), some (.ref 1), some (.int wt), some (.int (nI e)), some (.int (goneF (nI e) (nI co) (nI (k + 1)))), some (.int (nI k))]) dX11_way_64 (Nat.le_of_ble_eq_true rfl) rfl rfl ?_
        refine ew_iload (t := 68) dX11_way_66 rfl rfl ?_
        refine ew_if_lt (t := 83) (t2 := 71) dX11_way_68 rfl rfl (fun c_68 => ?_) (fun c_68 => ?_)
        · refine ew_iinc (t := 86) (x := (nI k)) (v := ((nI k) + 1)) (L' := [some (.ref to), some (.ref 1), some (.int wt), some (.int (nI e)), some (.int (goneF (nI e) (nI co) (nI (k + 1)))), some (.int ((nI k) + 1))]) dX11_way_83 rfl rfl (Nat.le_of_ble_eq_true rfl) rfl rfl ?_
          refine ew_goto (t := 34) dX11_way_86 rfl ?_
          rw [nI_1]
          have ee : (glF (nI e) (nI co) wt.toInt64 (vp_updL f e (f e + (2 * wt.toInt64))) k) = (glF (nI e) (nI co) wt.toInt64 (vp_updL f e (f e + (2 * wt.toInt64))) (k + 1)) := by rw [glF, if_pos c_68]
          rw [ee]
          exact ih (k + 1) (by omega)
        · obtain ⟨b1, hb1, eb1⟩ := goneF_nn c_68
          rw [eb1]
          refine ew_aload_n (t := 72) dX11_way_71 rfl rfl rfl ?_
          refine ew_get (t := 75) (j := 0) (v := .ref (to + 1)) fcX11 ((hv_miss (by omega)).trans xt) (Nat.le_of_ble_eq_true rfl) q744 rfl dX11_way_72 rfl ?_
          refine ew_iload (t := 77) dX11_way_75 rfl rfl ?_
          refine ew_dup2 (t := 78) dX11_way_77 rfl rfl rfl ?_
          refine ew_lald (t := 79) (j := b1) (N := 100) hv_hit (vp_in_nI (by omega) (by omega)) (nI_clamp (by omega)) dX11_way_78 rfl ?_
          refine ew_iload_n (t := 80) dX11_way_79 rfl rfl rfl ?_
          refine ew_i2l (t := 81) dX11_way_80 rfl ?_
          refine ew_ladd (t := 82) dX11_way_81 rfl ?_
          refine ew_last (t := 83) (j := b1) (N := 100) (h' := (hov h [((to + 1), JA 100 (vp_updL (glF (nI e) (nI co) wt.toInt64 (vp_updL f e (f e + (2 * wt.toInt64))) k) b1 (((glF (nI e) (nI co) wt.toInt64 (vp_updL f e (f e + (2 * wt.toInt64))) k) b1) + wt.toInt64)))])) hv_hit (vp_in_nI (by omega) (by omega)) (nI_clamp (by omega)) dX11_way_82 hov_set_hit rfl ?_
          refine ew_iinc (t := 86) (x := (nI k)) (v := ((nI k) + 1)) (L' := [some (.ref to), some (.ref 1), some (.int wt), some (.int (nI e)), some (.int (nI b1)), some (.int ((nI k) + 1))]) dX11_way_83 rfl rfl (Nat.le_of_ble_eq_true rfl) rfl rfl ?_
          refine ew_goto (t := 34) dX11_way_86 rfl ?_
          rw [nI_1]
          have ee : vp_updL (glF (nI e) (nI co) wt.toInt64 (vp_updL f e (f e + (2 * wt.toInt64))) k) b1 ((glF (nI e) (nI co) wt.toInt64 (vp_updL f e (f e + (2 * wt.toInt64))) k) b1 + wt.toInt64) = (glF (nI e) (nI co) wt.toInt64 (vp_updL f e (f e + (2 * wt.toInt64))) (k + 1)) := by rw [glF, if_neg c_68, eb1, nI_clamp (by omega)]
          rw [ee, ← eb1]
          exact ih (k + 1) (by omega)
set_option maxHeartbeats 600000 in
theorem ax_wayE {l : Launch} {G : GW} {h : AH} {n : Nat} {to : Nat} (hto : 63 ≤ to) {ce s FS : Nat → Int32} {f : Nat → Int64} {H e co g : Nat} {wt : Int32} (hH : FS 2 = nI H) (hH6 : H ≤ 6) (hce : ce H = nI e) (he : e < 100) (h9 : s 9 = nI co) (hco : co < 8) (hg : FS 6 = nI g) (hg3 : g ≤ 3) (x1 : h 1 = some (XO s)) (x16 : h 16 = some (IA 7 ce)) (x2 : h 2 = some TO0) (x3 : h 3 = some (IA 8 FS)) (xt : h to = some (OB 10 [.ref (to + 1)])) (xa : h (to + 1) = some (JA 100 f)) : AM l G yX11_way cX11_way 6 (some .boolean) 2 0 0 [.ref to, .ref 1, .int wt] h n (Qi 1 (hov h [((to + 1), JA 100 (glF (nI e) (nI co) wt.toInt64 (vp_updL f e (f e + (2 * wt.toInt64))) g))]) n) := by
  refine AM.of (L := [some (.ref to), some (.ref 1), some (.int wt), none, none, none]) (by decide) (Nat.le_of_ble_eq_true rfl) rfl ?_
  refine ew_aload_n (t := 1) dX11_way_0 rfl rfl rfl ?_
  refine ew_getN (t := 4) (j := 8) (v := .ref 16) fcX0 x1 (Nat.le_of_ble_eq_true rfl) q263 rfl dX11_way_1 rfl ?_
  refine ew_aload_n (t := 5) dX11_way_4 rfl rfl rfl ?_
  refine ew_getN (t := 8) (j := 0) (v := .ref 2) fcX0 x1 (Nat.le_of_ble_eq_true rfl) q253 rfl dX11_way_5 rfl ?_
  refine ew_callV (t := 11) (As := []) (ax_hours x2 x3) (fcX1).1 x2 (lw_V q463 q447 q448 q52 q449) rfl naX1_hours dX11_way_8 rfl (Nat.le_of_ble_eq_true rfl) (Nat.le_of_ble_eq_true rfl) (Nat.le_refl _) (Nat.le_refl _) (Nat.le_of_ble_eq_true rfl) rfl (qi ?_)
  rw [hH]
  refine ew_iald (t := 12) (j := H) (N := 7) x16 (vp_in_nI (by omega) (by omega)) (nI_clamp (by omega)) dX11_way_11 rfl ?_
  rw [hce]
  refine ew_istore_n (t := 13) (L' := [some (.ref to), some (.ref 1), some (.int wt), some (.int (nI e)), none, none]) dX11_way_12 rfl (Nat.le_of_ble_eq_true rfl) rfl rfl ?_
  refine ew_aload_n (t := 14) dX11_way_13 rfl rfl rfl ?_
  refine ew_get (t := 17) (j := 0) (v := .ref (to + 1)) fcX11 xt (Nat.le_of_ble_eq_true rfl) q744 rfl dX11_way_14 rfl ?_
  refine ew_iload_n (t := 18) dX11_way_17 rfl rfl rfl ?_
  refine ew_dup2 (t := 19) dX11_way_18 rfl rfl rfl ?_
  refine ew_lald (t := 20) (j := e) (N := 100) xa (vp_in_nI (by omega) (by omega)) (nI_clamp (by omega)) dX11_way_19 rfl ?_
  refine ew_ldc2 (t := 23) (v := 2) dX11_way_20 q464 rfl ?_
  refine ew_iload_n (t := 24) dX11_way_23 rfl rfl rfl ?_
  refine ew_i2l (t := 25) dX11_way_24 rfl ?_
  refine ew_lmul (t := 26) dX11_way_25 rfl ?_
  refine ew_ladd (t := 27) dX11_way_26 rfl ?_
  refine ew_last (t := 28) (j := e) (N := 100) (h' := (hov h [((to + 1), JA 100 (vp_updL f e ((f e) + (2 * wt.toInt64))))])) xa (vp_in_nI (by omega) (by omega)) (nI_clamp (by omega)) dX11_way_27 hov_up0 rfl ?_
  refine ew_iload_n (t := 29) dX11_way_28 rfl rfl rfl ?_
  refine ew_istore (t := 31) (L' := [some (.ref to), some (.ref 1), some (.int wt), some (.int (nI e)), some (.int (nI e)), none]) dX11_way_29 (Nat.le_of_ble_eq_true rfl) rfl rfl ?_
  refine ew_ic0 (t := 32) dX11_way_31 rfl ?_
  refine ew_istore (t := 34) (L' := [some (.ref to), some (.ref 1), some (.int wt), some (.int (nI e)), some (.int (nI e)), some (.int 0)]) dX11_way_32 (Nat.le_of_ble_eq_true rfl) rfl rfl ?_
  have l0 := lx_wayE (l := l) (G := G) (n := n) (f := f) (wt := wt) hto hH hH6 hce he h9 hco hg hg3 x1 x16 x2 x3 xt g 0 (by omega)
  rw [gn_0 e he co hco] at l0
  exact l0
