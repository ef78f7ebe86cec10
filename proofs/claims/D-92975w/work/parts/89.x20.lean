-- Obj fields dict_keys(['cls', 'fun', 'sname', 'refs', 'extra', 'ups'])
/-! the component: findOdds, the whole -/
set_option maxRecDepth 100000
theorem fold_E {H g : Nat} : ∀ (ws : List WY) (f : Nat → Int64), foldW (enT H g) f ws = (waysS H g ws f, true)
  | [], f => rfl
  | w :: ws, f => fold_E ws (wayS H g w f)
theorem XR_X {F : Nat → Nat → Int32} {np nd n : Nat} {h : AH} {c d : AC} {s ce : Nat → Int32} (hn : 63 ≤ n) (xr : XR F np nd h n) : XR F np nd (XH (hov h [(n, c), (n + 1, d)]) s ce) (n + 1 + 1) := by
  obtain ⟨-, ⟨t1, t2, t3, t4, t5, t6, t7⟩, l1, l2⟩ := xr
  have e : ∀ k, k < n → ¬ k = 1 → ¬ k = 16 → XH (hov h [(n, c), (n + 1, d)]) s ce k = h k := fun k h1 h2 h3 => (XH_lo h2 h3).trans (below2 h1)
  exact ⟨⟨s, rfl⟩, ⟨(e 2 (by omega) (by omega) (by omega)).trans t1, (e 3 (by omega) (by omega) (by omega)).trans t2, (e 4 (by omega) (by omega) (by omega)).trans t3, (e 5 (by omega) (by omega) (by omega)).trans t4, (e 6 (by omega) (by omega) (by omega)).trans t5, (e 7 (by omega) (by omega) (by omega)).trans t6, (e 8 (by omega) (by omega) (by omega)).trans t7⟩, l1.mono (by omega) (fun k h1 h2 => e k h1 (by omega) (by omega)) (by omega), l2.mono (by omega) (fun k h1 h2 => e k h1 (by omega) (by omega)) (by omega)⟩
/-- behind findOdds: the sums lie in tc -/
def FOQ (F : Nat → Nat → Int32) (np nd : Nat) (s : Nat → Int32) (h : AH) (n tc : Nat) (SN : Nat → Nat) : Option Value → AH → Nat → Prop := fun r h' n' => r = some (.long (lN (foS SN 100))) ∧ n' = n + 1 + 1 ∧ frC h h' n ∧ (∃ f', h' tc = some (JA 100 f') ∧ ∀ j, j < 100 → f' j = lN (SN j)) ∧ h' (35 - tc) = h (35 - tc) ∧ scX h' ∧ (∃ s', h' 1 = some (XO s') ∧ kpS s s') ∧ XR F np nd h' n'
set_option maxHeartbeats 600000 in
theorem xf_findOdds {l : Launch} {G : GW} {h : AH} {n : Nat} {s ce : Nat → Int32} {F : Nat → Nat → Int32} {a b H T S U g wd np nd : Nat} (hn : 63 ≤ n) (x1 : h 1 = some (XO s)) (x16 : h 16 = some (IA 7 ce)) (sc : scX h) (xr : XR F np nd h n) (wk : WKc F a b H T S U g wd) (ok : OKP F np nd) {wo nr nt nf : Int32} (fl : FLG wo 0 nr nt nf) {lp : Nat → Bool} {ld : Bool} (hlp : ∀ j, j < np → lp j = decide (wo = 8 + nI j)) (hld : ld = decide (wo = 12)) {EN : Nat → Nat} (hE : ∀ j, j < 100 → waysS H g (allW F nr nt nf a b H T S U) (fun _ => 0) j = lN (EN j) ∧ EN j < 2 ^ 30) {tc : Nat} (htc : tc = 17 ∨ tc = 18) : AM l G yX0_findOdds cX0_findOdds 10 (some .long) 33 2 101 [.ref 1, .int wo, .ref tc] h n (FOQ F np nd s h n tc (sN F lp ld EN np nd)) := by
  refine AM.of (L := [some (.ref 1), some (.int wo), some (.ref tc), none, none, none, none, none, none, none]) (by decide) (Nat.le_of_ble_eq_true rfl) rfl ?_
  have xt := xr.2.1
  refine ew_new (t := 3) (fs := [.null]) (h' := (hov h [(n, OB 10 [.null])])) fcX11 dX0_findOdds_0 q738 q739 q73 (by decide) (by decide) rfl hov_up0 rfl ?_
  refine ew_dup (t := 4) dX0_findOdds_3 rfl rfl ?_
  refine ew_callIN (t := 7) (As := []) (ax_i11 (h := (hov h [(n, OB 10 [.null])])) (n := n + 1) (c := n) (by omega) hv_hit) q740 q741 q73 q742 rfl naX11_init dX0_findOdds_4 rfl (Nat.le_of_ble_eq_true rfl) (Nat.le_of_ble_eq_true rfl) (by omega) (by omega) (Nat.le_of_ble_eq_true rfl) rfl (qv ?_)
  refine EW.heap (h' := (hov h [(n, OB 10 [.ref (n + 1)]), ((n + 1), JA 100 (fun _ => 0))])) (hov_ov4 (by omega)) ?_
  refine ew_astore_n (t := 8) (L' := [some (.ref 1), some (.int wo), some (.ref tc), some (.ref n), none, none, none, none, none, none]) dX0_findOdds_7 rfl (Nat.le_of_ble_eq_true rfl) rfl rfl ?_
  refine ew_aload_n (t := 9) dX0_findOdds_8 rfl rfl rfl ?_
  refine ew_aload_n (t := 10) dX0_findOdds_9 rfl rfl rfl ?_
  refine ew_iload_n (t := 11) dX0_findOdds_10 rfl rfl rfl ?_
  refine ew_ic0 (t := 12) dX0_findOdds_11 rfl ?_
  have kb : KB (enK h n) (F 34) (frX (F 35)) (F 36) := by
    rintro x hb rfl; exact ⟨(below2 (by omega)).trans xt.1, (below2 (by omega)).trans xt.2.1, (below2 (by omega)).trans xt.2.2.1, (below2 (by omega)).trans xt.2.2.2.1⟩
  have ga := ax_goAll (l := l) (G := G) (n := (n + 1 + 1)) (K := enK h n) (tS := (enT H g)) (to := n) (x := (fun _ => 0)) kb (wk.cf fl) (tl_E hn wk.2.2.2.2.1 wk.2.2.2.2.2.2.1 wk.2.2.2.2.2.2.2.2.2.2.2.2.2.1 wk.2.2.2.2.2.2.2.2.2.2.2.2.2.2.1 xt.1 xt.2.1) (by decide) wk.2.2.2.1 wk.2.2.1 (hb := (hov h [(n, OB 10 [.ref (n + 1)]), ((n + 1), JA 100 (fun _ => 0))])) rfl s ce
  rw [XH_id (hb := (hov h [(n, OB 10 [.ref (n + 1)]), ((n + 1), JA 100 (fun _ => 0))])) ((hv_miss (by omega)).trans ((hv_miss (by omega)).trans x1)) ((hv_miss (by omega)).trans ((hv_miss (by omega)).trans x16))] at ga
  refine ew_callV (t := 15) (As := [_, _, _]) (ga) (fcX0).1 ((hv_miss (by omega)).trans ((hv_miss (by omega)).trans x1)) (lw_V q421 q423 qs10 q51 q424) rfl naX0_goAll dX0_findOdds_12 rfl (Nat.le_of_ble_eq_true rfl) (Nat.le_of_ble_eq_true rfl) (by omega) (by omega) (Nat.le_of_ble_eq_true rfl) rfl (fun rr h9 n9 qq => ?_)
  obtain ⟨rfl, qn, hb', s', ce', hk', rfl, kp⟩ := qq
  replace qn := qn.symm
  subst qn
  refine ew_lc0 (t := 16) dX0_findOdds_15 rfl ?_
  refine ew_lstore (t := 18) (L' := [some (.ref 1), some (.int wo), some (.ref tc), some (.ref n), some (.long 0), none, none, none, none, none]) dX0_findOdds_16 (Nat.le_of_ble_eq_true rfl) rfl rfl ?_
  refine ew_ic0 (t := 19) dX0_findOdds_18 rfl ?_
  refine ew_istore (t := 21) (L' := [some (.ref 1), some (.int wo), some (.ref tc), some (.ref n), some (.long 0), none, some (.int 0), none, none, none]) dX0_findOdds_19 (Nat.le_of_ble_eq_true rfl) rfl rfl ?_
  rw [fold_E] at hk'
  cases hk'
  obtain ⟨f0, xf0⟩ : ∃ f0, (XH (hov h [(n, OB 10 [.ref (n + 1)]), (n + 1, JA 100 (waysS H g (allW F nr nt nf a b H T S U) (fun _ => 0)))]) s' ce') tc = some (JA 100 f0) := by
    rcases htc with rfl | rfl
    · obtain ⟨f5, s5⟩ := sc.2.2.2.2.1; exact ⟨f5, (XH_lo (by decide) (by decide)).trans ((below2 (by omega)).trans s5)⟩
    · obtain ⟨f6, s6⟩ := sc.2.2.2.2.2; exact ⟨f6, (XH_lo (by decide) (by decide)).trans ((below2 (by omega)).trans s6)⟩
  refine EW.heap (h' := hov (XH (hov h [(n, OB 10 [.ref (n + 1)]), (n + 1, JA 100 (waysS H g (allW F nr nt nf a b H T S U) (fun _ => 0)))]) s' ce') [(tc, JA 100 f0)]) (hov_same xf0).symm ?_
  refine lx_fo3 (h := (XH (hov h [(n, OB 10 [.ref (n + 1)]), (n + 1, JA 100 (waysS H g (allW F nr nt nf a b H T S U) (fun _ => 0)))]) s' ce')) (en := n) (np := np) (nd := nd) (EN := EN) (lp := lp) (ld := ld) (by omega) (XR_X hn xr) ok hn htc hlp hld ((XH_hi (by omega)).trans hv_hit) ((XH_hi (by omega)).trans ((hv_miss (by omega)).trans hv_hit)) hE ?_ 100 0 none none none (by omega)
  refine ⟨rfl, rfl, fun k h1 h2 => ?_, ⟨_, hv_hit, fun j hj => foA_get 100 hj⟩, ?_, ?_, ⟨s', (hv_miss (by omega)).trans rfl, kp 3 (by omega), kp 18 (by omega)⟩, XR_tc (by omega) htc (XR_X hn xr)⟩
  · exact (hv_miss (by omega)).trans ((XH_lo (by omega) (by omega)).trans (below2 h1))
  · exact (hv_miss (by omega)).trans ((XH_lo (by omega) (by omega)).trans (below2 (by omega)))
  · obtain ⟨⟨f1, s1⟩, ⟨f2, s2⟩, ⟨f3, s3⟩, -, ⟨f5, s5⟩, f6, s6⟩ := sc
    have e : ∀ k, k < n → ¬ k = 1 → ¬ k = 16 → (XH (hov h [(n, OB 10 [.ref (n + 1)]), (n + 1, JA 100 (waysS H g (allW F nr nt nf a b H T S U) (fun _ => 0)))]) s' ce') k = h k := fun k h1 h2 h3 => (XH_lo h2 h3).trans (below2 h1)
    refine ⟨⟨f1, (hv_miss (by omega)).trans ((e 13 (by omega) (by omega) (by omega)).trans s1)⟩, ⟨f2, (hv_miss (by omega)).trans ((e 14 (by omega) (by omega) (by omega)).trans s2)⟩, ⟨f3, (hv_miss (by omega)).trans ((e 15 (by omega) (by omega) (by omega)).trans s3)⟩, ⟨ce', (hv_miss (by omega)).trans rfl⟩, ?_, ?_⟩
    · rcases htc with rfl | rfl
      · exact ⟨_, hv_hit⟩
      · exact ⟨f5, (hv_miss (by omega)).trans ((e 17 (by omega) (by omega) (by omega)).trans s5)⟩
    · rcases htc with rfl | rfl
      · exact ⟨f6, (hv_miss (by omega)).trans ((e 18 (by omega) (by omega) (by omega)).trans s6)⟩
      · exact ⟨_, hv_hit⟩
