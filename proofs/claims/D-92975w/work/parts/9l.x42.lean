-- Obj fields dict_keys(['cls', 'fun', 'sname', 'refs', 'extra', 'ups'])
/-! the component: film, the walk -/
set_option maxRecDepth 100000
theorem ref_11 {LN SZ : Nat → Int32} {t : Nat} {lane i nn : Int32} (h : LN t < 0) : refI LN SZ t lane i nn = -11 := by
  unfold refI
  rw [if_neg (Int32.not_le.mpr h)]
set_option maxHeartbeats 600000 in
theorem xc_film {l : Launch} {G : GW} {h : AH} {n : Nat} {s ce : Nat → Int32} {F : Nat → Nat → Int32} {a b H T S U g wd : Nat} (hn : 63 ≤ n) (x1 : h 1 = some (XO s)) (x16 : h 16 = some (IA 7 ce)) (xt : XT F h) (wk : WKc F a b H T S U g wd) (sc : scX h) {sm : Nat → Int32} {rr : Nat → Nat} (sh : SHx F h n rr) (rd : rrD F rr) (ki c lane i : Int32) : AM l G yX0_film cX0_film 8 (some .int) 33 2 12 [.ref 1, .int ki, .int c, .int lane, .int i] h n (FMQ s h n rr (flmP sm F H (allW F 0 0 0 a b H T S U) ki c lane i)) := by
  refine AM.of (L := [some (.ref 1), some (.int ki), some (.int c), some (.int lane), some (.int i), none, none, none]) (by decide) (Nat.le_of_ble_eq_true rfl) rfl ?_
  refine ew_iload_n (t := 1) dX0_film_0 rfl rfl rfl ?_
  refine ew_if_lt (t := 18) (t2 := 4) dX0_film_1 rfl rfl (fun c_1 => ?_) (fun c_1 => ?_)
  · refine ew_icm1 (t := 19) dX0_film_18 rfl ?_
    exact ew_iret rfl dX0_film_19 (by decide) (by decide) (by rw [show flmP sm F H (allW F 0 0 0 a b H T S U) ki c lane i = (-1, sm, F) from by unfold flmP; rw [if_pos c_1]]; exact FMQ.of hn sh (XQ.same x1 sc))
  · refine ew_iload_n (t := 5) dX0_film_4 rfl rfl rfl ?_
    refine ew_callS (t := 8) (As := [_]) (ax_isSheet  _) (lw_S q802 q803 q51 q804) naX0_isSheet dX0_film_5 rfl (Nat.le_of_ble_eq_true rfl) (Nat.le_of_ble_eq_true rfl) (by omega) (by omega) (Nat.le_of_ble_eq_true rfl) rfl (qi ?_)
    refine ew_if_eq (t := 18) (t2 := 11) dX0_film_8 rfl rfl (fun c_8 => ?_) (fun c_8 => ?_)
    · refine ew_icm1 (t := 19) dX0_film_18 rfl ?_
      exact ew_iret rfl dX0_film_19 (by decide) (by decide) (by rw [show flmP sm F H (allW F 0 0 0 a b H T S U) ki c lane i = (-1, sm, F) from by unfold flmP; rw [if_neg c_1, if_pos c_8]]; exact FMQ.of hn sh (XQ.same x1 sc))
    · refine ew_iload_n (t := 12) dX0_film_11 rfl rfl rfl ?_
      refine ew_callS (t := 15) (As := [_]) (ax_isLane  _) (lw_S q805 q806 q51 q807) naX0_isLane dX0_film_12 rfl (Nat.le_of_ble_eq_true rfl) (Nat.le_of_ble_eq_true rfl) (by omega) (by omega) (Nat.le_of_ble_eq_true rfl) rfl (qi ?_)
      refine ew_if_ne (t := 20) (t2 := 18) dX0_film_15 rfl rfl (fun c_15 => ?_) (fun c_15 => ?_)
      · obtain ⟨t, -, ht, rfl⟩ := inI_nat (c := c) (lo := 0) (hi := 3) (by omega) (by omega) (b2i_1.mp c_8)
        replace ht : t < 4 := by omega
        have hH6 := wk.2.2.2.2.2.2.1
        refine ew_aload_n (t := 21) dX0_film_20 rfl rfl rfl ?_
        refine ew_iload_n (t := 22) dX0_film_21 rfl rfl rfl ?_
        refine ew_iload_n (t := 23) dX0_film_22 rfl rfl rfl ?_
        refine ew_iload (t := 25) dX0_film_23 rfl rfl ?_
        refine ew_callV (t := 28) (As := [_, _, _]) (ax_lacks x1 xt sh wk.2.2.2.2.1 wk.2.2.2.2.2.2.1 ht lane i) (fcX0).1 x1 (lw_V q808 q810 qs26 q51 q811) rfl naX0_lacks dX0_film_25 rfl (Nat.le_of_ble_eq_true rfl) (Nat.le_of_ble_eq_true rfl) (by omega) (by omega) (Nat.le_of_ble_eq_true rfl) rfl (qi ?_)
        refine ew_istore (t := 30) (L' := [some (.ref 1), some (.int ki), some (.int (nI t)), some (.int lane), some (.int i), some (.int (refI (F 59) (F 60) t lane i (nI (H + 1)))), none, none]) dX0_film_28 (Nat.le_of_ble_eq_true rfl) rfl rfl ?_
        refine ew_iload (t := 32) dX0_film_30 rfl rfl ?_
        refine ew_if_ge (t := 38) (t2 := 35) dX0_film_32 rfl rfl (fun c_32 => ?_) (fun c_32 => ?_)
        · rcases sh.2 t ht with ⟨q1, q2⟩ | ⟨ln, z, f, q1, q2, q3, q4, q5, q6, q7, q8, q9⟩
          · exact absurd c_32 (by rw [ref_11 q1]; decide)
          · obtain ⟨eln, bb, ebb, hbz⟩ := refI_ok (by omega) q2 q4 c_32
            obtain ⟨ii, hii, rfl⟩ := nI_of c_1
            refine ew_aload_n (t := 39) dX0_film_38 rfl rfl rfl ?_
            refine ew_iload_n (t := 40) dX0_film_39 rfl rfl rfl ?_
            refine ew_callV (t := 43) (As := [_]) (ax_sought hn x1 x16 xt wk ii) (fcX0).1 x1 (lw_V q493 q495 qs17 q51 q496) rfl naX0_sought dX0_film_40 rfl (Nat.le_of_ble_eq_true rfl) (Nat.le_of_ble_eq_true rfl) (by omega) (by omega) (Nat.le_of_ble_eq_true rfl) rfl (fun rr h9 n9 qq => ?_)
            obtain ⟨rfl, qn, hb', s', ce', hk', rfl, kp⟩ := qq
            subst qn
            rw [fold_S _ ii (by omega)] at hk'
            by_cases cl : ii < (allW F 0 0 0 a b H T S U).length
            · rw [if_pos cl] at hk'
              obtain ⟨w, ew⟩ : ∃ w, (allW F 0 0 0 a b H T S U)[ii]? = some w := ⟨_, List.getElem?_eq_getElem cl⟩
              obtain ⟨sw, su, ss, sc', rfl, hw⟩ := hk'
              obtain ⟨rfl, rfl, rfl, hsl, hsc⟩ := hw w ew
              refine ew_astore (t := 45) (L' := [some (.ref 1), some (.int (nI ii)), some (.int (nI t)), some (.int lane), some (.int i), some (.int (refI (F 59) (F 60) t lane i (nI (H + 1)))), some (.ref n), none]) dX0_film_43 (Nat.le_of_ble_eq_true rfl) rfl rfl ?_
              refine ew_aload (t := 47) dX0_film_45 rfl rfl ?_
              refine ew_getN (t := 50) (j := 0) (v := .int (-1)) fcX7 ((XH_hi (by omega)).trans hv_hit) (Nat.le_of_ble_eq_true rfl) q504 rfl dX0_film_47 rfl ?_
              refine ew_if_lt (t := 56) (t2 := 53) dX0_film_50 rfl rfl (fun c_50 => ?_) (fun c_50 => ?_)
              · refine ew_ic0 (t := 57) dX0_film_56 rfl ?_
                refine ew_istore (t := 59) (L' := [some (.ref 1), some (.int (nI ii)), some (.int (nI t)), some (.int lane), some (.int i), some (.int (refI (F 59) (F 60) t lane i (nI (H + 1)))), some (.ref n), some (.int 0)]) dX0_film_57 (Nat.le_of_ble_eq_true rfl) rfl rfl ?_
                subst ebb
                have y8 : (XH (hov h [(n, OB 6 [.int (-1), .int (ownW w), .int (nI w.2.2.1), .int (nI w.2.2.2.1), .ref (n + 1)]), (n + 1, IA 7 sc')]) s' ce') (rr t) = some (rwA ln z f) := ((XH_lo (by omega) (by omega)).trans ((below2 (by omega)).trans q8))
                refine EW.heap (h' := hov (XH (hov h [(n, OB 6 [.int (-1), .int (ownW w), .int (nI w.2.2.1), .int (nI w.2.2.2.1), .ref (n + 1)]), (n + 1, IA 7 sc')]) s' ce') [(rr t, rwA ln z (flI f w bb 0))]) (hov_same y8).symm ?_
                refine lx_film (h := (XH (hov h [(n, OB 6 [.int (-1), .int (ownW w), .int (nI w.2.2.1), .int (nI w.2.2.2.1), .ref (n + 1)]), (n + 1, IA 7 sc')]) s' ce')) (p := n) (u := n + 1) (sc' := sc') (FS := F 34) q5 (by omega) (by omega) rfl ((XH_lo (by omega) (by omega)).trans ((below2 (by omega)).trans xt.1)) ((XH_lo (by omega) (by omega)).trans ((below2 (by omega)).trans xt.2.1)) ((XH_lo (by omega) (by omega)).trans ((below2 (by omega)).trans sh.1)) ht q1 q2 ((XH_lo (by omega) (by omega)).trans ((below2 (by omega)).trans q7)) ((XH_hi (by omega)).trans hv_hit) ((XH_hi (by omega)).trans ((hv_miss (by omega)).trans hv_hit)) (fun j hj => (hsc j (by omega)).1) (fun j hj => (hsc j (by omega)).2) hbz wk.2.2.2.2.1 hH6 ?_ (H + 1) 0 (by omega)
                refine ew_aload_n (t := 100) dX0_film_99 rfl rfl rfl ?_
                refine ew_get (t := 103) (j := 0) (v := .ref 2) fcX0 ((hv_miss (by omega)).trans rfl) (Nat.le_of_ble_eq_true rfl) q255 rfl dX0_film_100 rfl ?_
                refine ew_callV (t := 106) (As := []) (ax_hours ((hv_miss (by omega)).trans ((XH_lo (by omega) (by omega)).trans ((below2 (by omega)).trans xt.1))) ((hv_miss (by omega)).trans ((XH_lo (by omega) (by omega)).trans ((below2 (by omega)).trans xt.2.1)))) (fcX1).1 ((hv_miss (by omega)).trans ((XH_lo (by omega) (by omega)).trans ((below2 (by omega)).trans xt.1))) (lw_V q446 q447 q448 q52 q449) rfl naX1_hours dX0_film_103 rfl (Nat.le_of_ble_eq_true rfl) (Nat.le_of_ble_eq_true rfl) (by omega) (by omega) (Nat.le_of_ble_eq_true rfl) rfl (qi ?_)
                rw [wk.2.2.2.2.1]
                refine ew_ic1 (t := 107) dX0_film_106 rfl ?_
                refine ew_iadd (t := 108) dX0_film_107 rfl ?_
                exact ew_iret rfl dX0_film_108 (by decide) (by decide) (by rw [nI_1, show flmP sm F H (allW F 0 0 0 a b H T S U) (nI ii) (nI t) lane (nI bb) = (nI (H + 1), sm, va_up F 61 (flI (F 61) w (16 * t + bb) (H + 1))) from by unfold flmP; rw [if_neg c_1, if_neg c_8, if_pos c_15, nI_clamp (n := t) (by omega), if_pos c_32, nI_clamp (n := ii) (by omega), nI_clamp (n := bb) (by omega), ew]; rfl]; exact FMQ.fin hn sh rd (XQ.of sc (fun k hk => below2 hk) hn (by omega) kp) ht q1 q2 q3 q4 q5 q6 hbz q9 q7)
              · exact absurd c_50 (by decide)
            · rw [if_neg cl] at hk'
              obtain ⟨sw, su, ss, sc', rfl, -⟩ := hk'
              refine ew_astore (t := 45) (L' := [some (.ref 1), some (.int (nI ii)), some (.int (nI t)), some (.int lane), some (.int i), some (.int (refI (F 59) (F 60) t lane i (nI (H + 1)))), some (.ref n), none]) dX0_film_43 (Nat.le_of_ble_eq_true rfl) rfl rfl ?_
              refine ew_aload (t := 47) dX0_film_45 rfl rfl ?_
              refine ew_getN (t := 50) (j := 0) (v := .int (nI (ii - (allW F 0 0 0 a b H T S U).length))) fcX7 ((XH_hi (by omega)).trans hv_hit) (Nat.le_of_ble_eq_true rfl) q504 rfl dX0_film_47 rfl ?_
              refine ew_if_lt (t := 56) (t2 := 53) dX0_film_50 rfl rfl (fun c_50 => ?_) (fun c_50 => ?_)
              · exact absurd c_50 (nI_pos (by omega))
              · refine ew_bipush (t := 55) (v := (-2)) dX0_film_53 (by decide) rfl ?_
                exact ew_iret rfl dX0_film_55 (by decide) (by decide) (by rw [show flmP sm F H (allW F 0 0 0 a b H T S U) (nI ii) (nI t) lane i = (-2, sm, F) from by unfold flmP; rw [if_neg c_1, if_neg c_8, if_pos c_15, nI_clamp (n := t) (by omega), if_pos c_32, nI_clamp (n := ii) (by omega), show (allW F 0 0 0 a b H T S U)[ii]? = none from List.getElem?_eq_none (by omega)]; rfl]; exact FMQ.of hn sh (XQ.of sc (fun k hk => below2 hk) hn (by omega) kp))
        · refine ew_iload (t := 37) dX0_film_35 rfl rfl ?_
          exact ew_iret rfl dX0_film_37 (by decide) (by decide) (by rw [show flmP sm F H (allW F 0 0 0 a b H T S U) ki (nI t) lane i = ((refI (F 59) (F 60) t lane i (nI (H + 1))), sm, F) from by unfold flmP; rw [if_neg c_1, if_neg c_8, if_pos c_15, nI_clamp (n := t) (by omega), if_neg c_32]]; exact FMQ.of hn sh (XQ.same x1 sc))
      · refine ew_icm1 (t := 19) dX0_film_18 rfl ?_
        exact ew_iret rfl dX0_film_19 (by decide) (by decide) (by rw [show flmP sm F H (allW F 0 0 0 a b H T S U) ki c lane i = (-1, sm, F) from by unfold flmP; rw [if_neg c_1, if_neg c_8, if_neg (not_not_intro c_15)]]; exact FMQ.of hn sh (XQ.same x1 sc))
