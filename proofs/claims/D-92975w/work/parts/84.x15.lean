-- Obj fields dict_keys(['cls', 'fun', 'sname', 'refs', 'extra', 'ups'])
/-! the component: ways, weight, way -/
set_option maxRecDepth 100000
theorem XQ.of {s s' ce' : Nat → Int32} {h hb' : AH} {n n' : Nat} {ans : Value} (sc : scX h) (e : ∀ k, k < n → hb' k = h k) (hn : 63 ≤ n) (hn' : n ≤ n') (kp : kpX s s') : XQ s h n ans (some ans) (XH hb' s' ce') n' := by
  refine ⟨rfl, hn', fun k hk hs => ?_, ?_, s', rfl, kp 3 (by omega), kp 18 (by omega)⟩
  · rw [XH_lo (by omega) (by omega)]; exact e k hk
  · obtain ⟨⟨f1, s1⟩, ⟨f2, s2⟩, ⟨f3, s3⟩, -, ⟨f5, s5⟩, f6, s6⟩ := sc
    exact ⟨⟨f1, (e 13 (by omega)).trans s1⟩, ⟨f2, (e 14 (by omega)).trans s2⟩, ⟨f3, (e 15 (by omega)).trans s3⟩, ⟨ce', rfl⟩, ⟨f5, (e 17 (by omega)).trans s5⟩, f6, (e 18 (by omega)).trans s6⟩
theorem XQ.same {s : Nat → Int32} {h : AH} {n : Nat} {ans : Value} (x1 : h 1 = some (XO s)) (sc : scX h) : XQ s h n ans (some ans) h n := ⟨rfl, Nat.le_refl _, fun _ _ _ => rfl, sc, s, x1, rfl, rfl⟩
theorem below1 {h : AH} {n k : Nat} {c : AC} (hk : k < n) : hov h [(n, c)] k = h k := hv_miss (by omega)
theorem below2 {h : AH} {n k : Nat} {c d : AC} (hk : k < n) : hov h [(n, c), (n + 1, d)] k = h k := (hv_miss (by omega)).trans (hv_miss (by omega))
theorem hov_ov4 {h : AH} {a b : Nat} {x y z : AC} (hab : ¬ a = b) : hov (hov h [(a, x)]) [(b, y), (a, z)] = hov h [(a, z), (b, y)] := by
  funext k
  by_cases h1 : k = b
  · rw [h1, hv_hit, hv_miss (fun q => hab q.symm), hv_hit]
  · rw [hv_miss h1]
    by_cases h2 : k = a
    · rw [h2, hv_hit, hv_hit]
    · rw [hv_miss h2, hv_miss h2, hv_miss h1]
      show hov h [(a, x)] k = h k
      rw [hv_miss h2]; rfl
theorem fold_S : ∀ (ws : List WY) (i : Nat), i < 2 ^ 31 → foldW seT (nI i, none) ws = if i < ws.length then ((-1, ws[i]?), false) else ((nI (i - ws.length), none), true)
  | [], i, hi => by rw [if_neg (by simp)]; rfl
  | w :: ws, 0, hi => by
    rw [if_pos (by simp)]
    show (if (seT (nI 0, none) w).2 = true then foldW seT (seT (nI 0, none) w).1 ws else ((seT (nI 0, none) w).1, false)) = _
    rw [if_neg (show ¬ (seT (nI 0, none) w).2 = true by show ¬ (!(decide (nI 0 - 1 < 0))) = true; decide)]
    rfl
  | w :: ws, i + 1, hi => by
    show (if (seT (nI (i + 1), none) w).2 = true then foldW seT (seT (nI (i + 1), none) w).1 ws else ((seT (nI (i + 1), none) w).1, false)) = _
    have e1 : (seT (nI (i + 1), none) w).1 = (nI i, none) := by
      show (nI (i + 1) - 1, if nI (i + 1) = 0 then some w else none) = _
      rw [nI_pred, if_neg (nI_ne0 (by omega) (by omega))]
    have e2 : (seT (nI (i + 1), none) w).2 = true := by
      show (!(decide (nI (i + 1) - 1 < 0))) = true
      rw [nI_pred, decide_eq_false (nI_pos (by omega))]; rfl
    rw [if_pos e2, e1, fold_S ws i (by omega), List.length_cons, List.getElem?_cons_succ]
    by_cases c : i < ws.length
    · rw [if_pos c, if_pos (by omega)]
    · rw [if_neg c, if_neg (by omega), show i + 1 - (ws.length + 1) = i - ws.length by omega]
set_option maxHeartbeats 600000 in
theorem xc_ways {l : Launch} {G : GW} {h : AH} {n : Nat} {s ce : Nat → Int32} {F : Nat → Nat → Int32} {a b H T S U g wd : Nat} (hn : 63 ≤ n) (x1 : h 1 = some (XO s)) (x16 : h 16 = some (IA 7 ce)) (xt : XT F h) (wk : WKc F a b H T S U g wd) (sc : scX h) : AM l G yX0_ways cX0_ways 1 (some .int) 33 1 2 [.ref 1] h n (XQ s h n (.int (nI (allW F 0 0 0 a b H T S U).length))) := by
  refine AM.of (L := [some (.ref 1)]) (by decide) (Nat.le_of_ble_eq_true rfl) rfl ?_
  refine ew_aload_n (t := 1) dX0_ways_0 rfl rfl rfl ?_
  refine ew_callV (t := 4) (As := []) (ax_counted hn x1 x16 xt wk) (fcX0).1 x1 (lw_V q399 q401 qs9 q51 q402) rfl naX0_counted dX0_ways_1 rfl (Nat.le_of_ble_eq_true rfl) (Nat.le_of_ble_eq_true rfl) (by omega) (by omega) (Nat.le_of_ble_eq_true rfl) rfl (fun rr h9 n9 qq => ?_)
  obtain ⟨rfl, qn, s', ce', rfl, kp⟩ := qq
  subst qn
  refine ew_getN (t := 7) (j := 0) (v := .int (nI (allW F 0 0 0 a b H T S U).length)) fcX6 ((XH_hi (by omega)).trans hv_hit) (Nat.le_of_ble_eq_true rfl) q413 rfl dX0_ways_4 rfl ?_
  exact ew_iret rfl dX0_ways_7 (by decide) (by decide) (XQ.of sc (fun k hk => below1 hk) hn (Nat.le_succ _) kp)
set_option maxHeartbeats 600000 in
theorem xc_weight {l : Launch} {G : GW} {h : AH} {n : Nat} {s ce : Nat → Int32} {F : Nat → Nat → Int32} {a b H T S U g wd : Nat} (hn : 63 ≤ n) (x1 : h 1 = some (XO s)) (x16 : h 16 = some (IA 7 ce)) (xt : XT F h) (wk : WKc F a b H T S U g wd) (sc : scX h) : AM l G yX0_weight cX0_weight 1 (some .long) 33 1 2 [.ref 1] h n (XQ s h n (.long (wsum (allW F 0 0 0 a b H T S U)))) := by
  refine AM.of (L := [some (.ref 1)]) (by decide) (Nat.le_of_ble_eq_true rfl) rfl ?_
  refine ew_aload_n (t := 1) dX0_weight_0 rfl rfl rfl ?_
  refine ew_callV (t := 4) (As := []) (ax_counted hn x1 x16 xt wk) (fcX0).1 x1 (lw_V q399 q401 qs9 q51 q402) rfl naX0_counted dX0_weight_1 rfl (Nat.le_of_ble_eq_true rfl) (Nat.le_of_ble_eq_true rfl) (by omega) (by omega) (Nat.le_of_ble_eq_true rfl) rfl (fun rr h9 n9 qq => ?_)
  obtain ⟨rfl, qn, s', ce', rfl, kp⟩ := qq
  subst qn
  refine ew_getN (t := 7) (j := 1) (v := .long (wsum (allW F 0 0 0 a b H T S U))) fcX6 ((XH_hi (by omega)).trans hv_hit) (Nat.le_of_ble_eq_true rfl) q415 rfl dX0_weight_4 rfl ?_
  exact ew_lret rfl dX0_weight_7 (by decide) (by decide) (XQ.of sc (fun k hk => below1 hk) hn (Nat.le_succ _) kp)
set_option maxHeartbeats 600000 in
theorem ax_i7 {l : Launch} {G : GW} {h : AH} {n : Nat} {c : Nat} (hcn : c < n) (xc : h c = some (OB 6 [.int 0, .int 0, .int 0, .int 0, .null])) : AM l G yX7_init cX7_init 1 none 2 1 7 [.ref c] h n (Qv (hov h [(n, IA 7 (fun _ => 0)), (c, OB 6 [.int 0, .int 0, .int 0, .int 0, .ref n])]) (n + 1)) := by
  refine AM.of (L := [some (.ref c)]) (by decide) (Nat.le_of_ble_eq_true rfl) rfl ?_
  refine ew_aload_n (t := 1) dX7_init_0 rfl rfl rfl ?_
  refine ew_callIN (t := 4) (As := []) (ax_i5) q502 q409 q63 q410 rfl naX5_init dX7_init_1 rfl (Nat.le_of_ble_eq_true rfl) (Nat.le_of_ble_eq_true rfl) (by omega) (by omega) (Nat.le_of_ble_eq_true rfl) rfl (qv ?_)
  refine ew_aload_n (t := 5) dX7_init_4 rfl rfl rfl ?_
  refine ew_bipush (t := 7) (v := 7) dX7_init_5 (by decide) rfl ?_
  refine ew_newI (t := 9) (N := 7) (h' := (hov h [(n, IA 7 (fun _ => 0))])) dX7_init_7 q123 (by decide) (by decide) (by decide) (by decide) (by decide) hov_up0 rfl ?_
  refine ew_putF (t := 12) (j := 4) (fs' := [.int 0, .int 0, .int 0, .int 0, .ref n]) (h' := (hov h [(n, IA 7 (fun _ => 0)), (c, OB 6 [.int 0, .int 0, .int 0, .int 0, .ref n])])) fcX7 ((hv_miss (by omega)).trans xc) (Nat.le_of_ble_eq_true rfl) rfl rfl rfl q511 rfl rfl (Nat.le_of_ble_eq_true rfl) rfl dX7_init_9 (hov_set_miss (by omega) hov_set_nil) rfl ?_
  exact ew_vret rfl dX7_init_12 (by decide) (by decide) ⟨rfl, rfl, rfl⟩
set_option maxHeartbeats 600000 in
theorem ax_i8 {l : Launch} {G : GW} {h : AH} {n : Nat} {c : Nat} (hcn : c < n) (xc : h c = some (OB 7 [.int 0, .null])) : AM l G yX8_init cX8_init 1 none 2 1 100 [.ref c] h n (Qv (hov h [(n, ZA 100 (fun _ => 0)), (c, OB 7 [.int 0, .ref n])]) (n + 1)) := by
  refine AM.of (L := [some (.ref c)]) (by decide) (Nat.le_of_ble_eq_true rfl) rfl ?_
  refine ew_aload_n (t := 1) dX8_init_0 rfl rfl rfl ?_
  refine ew_callIN (t := 4) (As := []) (ax_i5) q533 q409 q63 q410 rfl naX5_init dX8_init_1 rfl (Nat.le_of_ble_eq_true rfl) (Nat.le_of_ble_eq_true rfl) (by omega) (by omega) (Nat.le_of_ble_eq_true rfl) rfl (qv ?_)
  refine ew_aload_n (t := 5) dX8_init_4 rfl rfl rfl ?_
  refine ew_bipush (t := 7) (v := 100) dX8_init_5 (by decide) rfl ?_
  refine ew_newZ (t := 9) (N := 100) (h' := (hov h [(n, ZA 100 (fun _ => 0))])) dX8_init_7 q543 (by decide) (by decide) (by decide) (by decide) (by decide) hov_up0 rfl ?_
  refine ew_putF (t := 12) (j := 1) (fs' := [.int 0, .ref n]) (h' := (hov h [(n, ZA 100 (fun _ => 0)), (c, OB 7 [.int 0, .ref n])])) fcX8 ((hv_miss (by omega)).trans xc) (Nat.le_of_ble_eq_true rfl) rfl rfl rfl q536 rfl rfl (Nat.le_of_ble_eq_true rfl) rfl dX8_init_9 (hov_set_miss (by omega) hov_set_nil) rfl ?_
  exact ew_vret rfl dX8_init_12 (by decide) (by decide) ⟨rfl, rfl, rfl⟩
set_option maxHeartbeats 600000 in
theorem ax_i11 {l : Launch} {G : GW} {h : AH} {n : Nat} {c : Nat} (hcn : c < n) (xc : h c = some (OB 10 [.null])) : AM l G yX11_init cX11_init 1 none 2 1 100 [.ref c] h n (Qv (hov h [(n, JA 100 (fun _ => 0)), (c, OB 10 [.ref n])]) (n + 1)) := by
  refine AM.of (L := [some (.ref c)]) (by decide) (Nat.le_of_ble_eq_true rfl) rfl ?_
  refine ew_aload_n (t := 1) dX11_init_0 rfl rfl rfl ?_
  refine ew_callIN (t := 4) (As := []) (ax_i5) q743 q409 q63 q410 rfl naX5_init dX11_init_1 rfl (Nat.le_of_ble_eq_true rfl) (Nat.le_of_ble_eq_true rfl) (by omega) (by omega) (Nat.le_of_ble_eq_true rfl) rfl (qv ?_)
  refine ew_aload_n (t := 5) dX11_init_4 rfl rfl rfl ?_
  refine ew_bipush (t := 7) (v := 100) dX11_init_5 (by decide) rfl ?_
  refine ew_newJ (t := 9) (N := 100) (h' := (hov h [(n, JA 100 (fun _ => 0))])) dX11_init_7 q252 (by decide) (by decide) (by decide) (by decide) (by decide) hov_up0 rfl ?_
  refine ew_putF (t := 12) (j := 0) (fs' := [.ref n]) (h' := (hov h [(n, JA 100 (fun _ => 0)), (c, OB 10 [.ref n])])) fcX11 ((hv_miss (by omega)).trans xc) (Nat.le_of_ble_eq_true rfl) rfl rfl rfl q744 rfl rfl (Nat.le_of_ble_eq_true rfl) rfl dX11_init_9 (hov_set_miss (by omega) hov_set_nil) rfl ?_
  exact ew_vret rfl dX11_init_12 (by decide) (by decide) ⟨rfl, rfl, rfl⟩
set_option maxHeartbeats 600000 in
theorem ax_i12 {l : Launch} {G : GW} {h : AH} {n : Nat} {c : Nat} (hcn : c < n) (xc : h c = some (OB 11 [.null, .int 0])) : AM l G yX12_init cX12_init 1 none 2 1 7 [.ref c] h n (Qv (hov h [(n, IA 7 (fun _ => 0)), (c, OB 11 [.ref n, .int 0])]) (n + 1)) := by
  refine AM.of (L := [some (.ref c)]) (by decide) (Nat.le_of_ble_eq_true rfl) rfl ?_
  refine ew_aload_n (t := 1) dX12_init_0 rfl rfl rfl ?_
  refine ew_callIN (t := 4) (As := []) (ax_i5) q832 q409 q63 q410 rfl naX5_init dX12_init_1 rfl (Nat.le_of_ble_eq_true rfl) (Nat.le_of_ble_eq_true rfl) (by omega) (by omega) (Nat.le_of_ble_eq_true rfl) rfl (qv ?_)
  refine ew_aload_n (t := 5) dX12_init_4 rfl rfl rfl ?_
  refine ew_bipush (t := 7) (v := 7) dX12_init_5 (by decide) rfl ?_
  refine ew_newI (t := 9) (N := 7) (h' := (hov h [(n, IA 7 (fun _ => 0))])) dX12_init_7 q123 (by decide) (by decide) (by decide) (by decide) (by decide) hov_up0 rfl ?_
  refine ew_putF (t := 12) (j := 0) (fs' := [.ref n, .int 0]) (h' := (hov h [(n, IA 7 (fun _ => 0)), (c, OB 11 [.ref n, .int 0])])) fcX12 ((hv_miss (by omega)).trans xc) (Nat.le_of_ble_eq_true rfl) rfl rfl rfl q833 rfl rfl (Nat.le_of_ble_eq_true rfl) rfl dX12_init_9 (hov_set_miss (by omega) hov_set_nil) rfl ?_
  exact ew_vret rfl dX12_init_12 (by decide) (by decide) ⟨rfl, rfl, rfl⟩
set_option maxHeartbeats 600000 in
theorem ax_sought {l : Launch} {G : GW} {h : AH} {n : Nat} {s ce : Nat → Int32} {F : Nat → Nat → Int32} {a b H T S U g wd : Nat} (hn : 63 ≤ n) (x1 : h 1 = some (XO s)) (x16 : h 16 = some (IA 7 ce)) (xt : XT F h) (wk : WKc F a b H T S U g wd) (i : Nat) : AM l G yX0_sought cX0_sought 3 (some (.object "SevenRings$Seeker")) 32 2 12 [.ref 1, .int (nI i)] h n (fun r h' n' => r = some (.ref n) ∧ n' = n + 1 + 1 ∧ ∃ hb' s' ce', seK h n H (foldW seT (nI i, none) (allW F 0 0 0 a b H T S U)).1 hb' ∧ h' = XH hb' s' ce' ∧ kpX s s') := by
  refine AM.of (L := [some (.ref 1), some (.int (nI i)), none]) (by decide) (Nat.le_of_ble_eq_true rfl) rfl ?_
  refine ew_new (t := 3) (fs := [.int 0, .int 0, .int 0, .int 0, .null]) (h' := (hov h [(n, OB 6 [.int 0, .int 0, .int 0, .int 0, .null])])) fcX7 dX0_sought_0 q497 q498 q65 (by decide) (by decide) rfl hov_up0 rfl ?_
  refine ew_dup (t := 4) dX0_sought_3 rfl rfl ?_
  refine ew_callIN (t := 7) (As := []) (ax_i7 (h := (hov h [(n, OB 6 [.int 0, .int 0, .int 0, .int 0, .null])])) (n := n + 1) (c := n) (by omega) hv_hit) q499 q500 q65 q501 rfl naX7_init dX0_sought_4 rfl (Nat.le_of_ble_eq_true rfl) (Nat.le_of_ble_eq_true rfl) (by omega) (by omega) (Nat.le_of_ble_eq_true rfl) rfl (qv ?_)
  refine EW.heap (h' := (hov h [(n, OB 6 [.int 0, .int 0, .int 0, .int 0, .ref (n + 1)]), ((n + 1), IA 7 (fun _ => 0))])) (hov_ov4 (by omega)) ?_
  refine ew_astore_n (t := 8) (L' := [some (.ref 1), some (.int (nI i)), some (.ref n)]) dX0_sought_7 rfl (Nat.le_of_ble_eq_true rfl) rfl rfl ?_
  refine ew_aload_n (t := 9) dX0_sought_8 rfl rfl rfl ?_
  refine ew_iload_n (t := 10) dX0_sought_9 rfl rfl rfl ?_
  refine ew_putN (t := 13) (j := 0) (fs' := [.int (nI i), .int 0, .int 0, .int 0, .ref (n + 1)]) (h' := (hov h [(n, OB 6 [.int (nI i), .int 0, .int 0, .int 0, .ref (n + 1)]), ((n + 1), IA 7 (fun _ => 0))])) fcX7 hv_hit (Nat.le_of_ble_eq_true rfl) rfl q504 rfl rfl (Nat.le_of_ble_eq_true rfl) rfl dX0_sought_10 hov_set_hit rfl ?_
  refine ew_aload_n (t := 14) dX0_sought_13 rfl rfl rfl ?_
  refine ew_aload_n (t := 15) dX0_sought_14 rfl rfl rfl ?_
  refine ew_icm1 (t := 16) dX0_sought_15 rfl ?_
  refine ew_ic0 (t := 17) dX0_sought_16 rfl ?_
  have kb : KB (seK h n H) (F 34) (frX (F 35)) (F 36) := by
    rintro x hb ⟨sw, su, ss, sc, rfl, -⟩; exact ⟨(below2 (by omega)).trans xt.1, (below2 (by omega)).trans xt.2.1, (below2 (by omega)).trans xt.2.2.1, (below2 (by omega)).trans xt.2.2.2.1⟩
  have ga := ax_goAll (l := l) (G := G) (n := (n + 1 + 1)) (K := seK h n H) (tS := seT) (to := n) (x := (nI i, none)) kb (wk.cf FLG_0) (tl_S hn wk.2.2.2.2.2.2.1) (by decide) wk.2.2.2.1 wk.2.2.1 (hb := (hov h [(n, OB 6 [.int (nI i), .int 0, .int 0, .int 0, .ref (n + 1)]), ((n + 1), IA 7 (fun _ => 0))])) ⟨0, 0, 0, fun _ => 0, rfl, fun w q => by cases q⟩ s ce
  rw [XH_id (hb := (hov h [(n, OB 6 [.int (nI i), .int 0, .int 0, .int 0, .ref (n + 1)]), ((n + 1), IA 7 (fun _ => 0))])) ((hv_miss (by omega)).trans ((hv_miss (by omega)).trans x1)) ((hv_miss (by omega)).trans ((hv_miss (by omega)).trans x16))] at ga
  refine ew_callV (t := 20) (As := [_, _, _]) (ga) (fcX0).1 ((hv_miss (by omega)).trans ((hv_miss (by omega)).trans x1)) (lw_V q421 q423 qs10 q51 q424) rfl naX0_goAll dX0_sought_17 rfl (Nat.le_of_ble_eq_true rfl) (Nat.le_of_ble_eq_true rfl) (by omega) (by omega) (Nat.le_of_ble_eq_true rfl) rfl (fun rr h9 n9 qq => ?_)
  obtain ⟨rfl, qn, hb', s', ce', hk', rfl, kp⟩ := qq
  replace qn := qn.symm
  subst qn
  refine ew_aload_n (t := 21) dX0_sought_20 rfl rfl rfl ?_
  exact ew_aret rfl (Or.inl ⟨_, rfl⟩) dX0_sought_21 (by decide) (by decide) ⟨rfl, rfl, hb', s', ce', hk', rfl, kp⟩
