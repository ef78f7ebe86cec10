-- Obj fields dict_keys(['cls', 'fun', 'sname', 'refs', 'extra', 'ups'])
/-! the component's told part; ways, weight -/
set_option maxRecDepth 100000
/-- what is told, as the component keeps it -/
def XT (F : Nat → Nat → Int32) (h : AH) : Prop := h 2 = some TO0 ∧ h 3 = some (IA 8 (F 34)) ∧ h 4 = some (IA 7 (frX (F 35))) ∧ h 5 = some (IA 7 (F 36)) ∧ h 6 = some (BA 200 (F 37)) ∧ h 7 = some (BA 200 (F 38)) ∧ h 8 = some (BA 100 (F 39))
/-- the scratch cells -/
def scX (h : AH) : Prop := (∃ f, h 13 = some (IA 7 f)) ∧ (∃ f, h 14 = some (IA 7 f)) ∧ (∃ f, h 15 = some (BA 10 f)) ∧ (∃ f, h 16 = some (IA 7 f)) ∧ (∃ f, h 17 = some (JA 100 f)) ∧ ∃ f, h 18 = some (JA 100 f)
/-- the told numbers: eye, start, hours, turns, slowed, fuel, glides, wind -/
def WKc (F : Nat → Nat → Int32) (a b H T S U g wd : Nat) : Prop := F 34 0 = nI a ∧ a < 100 ∧ F 34 1 = nI b ∧ b < 100 ∧ F 34 2 = nI H ∧ 0 < H ∧ H ≤ 6 ∧ F 34 3 = nI T ∧ T ≤ 2 ∧ F 34 4 = nI S ∧ S ≤ 1 ∧ F 34 5 = nI U ∧ U ≤ 60 ∧ F 34 6 = nI g ∧ g ≤ 3 ∧ F 34 7 = nI wd ∧ wd ≤ 8 ∧ okR (F 35)
/-- all but the scratch cells are as they were; what the component's fields are beside the walk's -/
def frC (h h' : AH) (n : Nat) : Prop := ∀ k, k < n → ¬ (k = 1 ∨ (13 ≤ k ∧ k ≤ 18)) → h' k = h k
def kpS (s s' : Nat → Int32) : Prop := s' 3 = s 3 ∧ s' 18 = s 18
def XQ (s : Nat → Int32) (h : AH) (n : Nat) (ans : Value) : Option Value → AH → Nat → Prop := fun r h' n' => r = some ans ∧ n ≤ n' ∧ frC h h' n ∧ scX h' ∧ ∃ s', h' 1 = some (XO s') ∧ kpS s s'
theorem WKc.cf {F : Nat → Nat → Int32} {a b H T S U g wd : Nat} (wk : WKc F a b H T S U g wd) {wo any nr nt nf : Int32} (fl : FLG wo any nr nt nf) : CFX (F 34) (frX (F 35)) (F 35) wo any nr nt nf a H T S U := by
  obtain ⟨w1, w2, w3, w4, w5, w6, w7, w8, w9, w10, w11, w12, w13, w14, w15, w16, w17, w18⟩ := wk
  exact ⟨w1, w2, w5, w6, w7, w8, w9, w10, w11, w12, by omega, fl, w18, rfl⟩
theorem FLG_0 : FLG (-1) 0 0 0 0 := by
  refine ⟨fun j hj => ?_, by decide, by decide⟩
  have := show ∀ j, j < 6 → (((0 : Int32) >>> (nI (j + 1) &&& 31)) &&& 1 = 1 ↔ (¬ (0 : Int32) = 0 ∨ (-1 : Int32) = nI (j + 1) - 1)) by decide +kernel
  exact this j hj
theorem XH_id {hb : AH} {s ce : Nat → Int32} (h1 : hb 1 = some (XO s)) (h2 : hb 16 = some (IA 7 ce)) : XH hb s ce = hb := hov_same2 h1 h2
/-- the list of all ways of what is told -/
def allW (F : Nat → Nat → Int32) (nr nt nf : Int32) (a b H T S U : Nat) : List WY := wyN (F 35) (F 36) nr nt nf a T S U H 0 (rtN b)
theorem fold_C : ∀ (ws : List WY) (p : Int32) (q : Int64), foldW ctT (p, q) ws = ((p + nI ws.length, q + wsum ws), true)
  | [], p, q => by
    show ((p, q), true) = ((p + nI 0, q + 0), true)
    rw [Int64.add_zero, show nI 0 = 0 from rfl, Int32.add_zero]
  | w :: ws, p, q => by
    show foldW ctT (p + 1, q + (ownW w).toInt64) ws = _
    rw [fold_C ws]
    show ((p + 1 + nI ws.length, q + (ownW w).toInt64 + wsum ws), true) = ((p + nI (ws.length + 1), q + ((ownW w).toInt64 + wsum ws)), true)
    rw [← nI_1, Int64.add_assoc, Int32.add_assoc, Int32.add_comm 1 (nI ws.length)]
set_option maxHeartbeats 600000 in
theorem ax_i5 {l : Launch} {G : GW} {h : AH} {n : Nat} {c : Nat} : AM l G yX5_init cX5_init 1 none 1 0 0 [.ref c] h n (Qv h n) := by
  refine AM.of (L := [some (.ref c)]) (by decide) (Nat.le_of_ble_eq_true rfl) rfl ?_
  refine ew_aload_n (t := 1) dX5_init_0 rfl rfl rfl ?_
  refine ew_objInit (t := 4) q411 q89 q90 dX5_init_1 (by decide) (by decide) rfl ?_
  exact ew_vret rfl dX5_init_4 (Nat.le_refl _) (Nat.le_refl _) ⟨rfl, rfl, rfl⟩
set_option maxHeartbeats 600000 in
theorem ax_i6 {l : Launch} {G : GW} {h : AH} {n : Nat} {c : Nat} : AM l G yX6_init cX6_init 1 none 2 0 0 [.ref c] h n (Qv h n) := by
  refine AM.of (L := [some (.ref c)]) (by decide) (Nat.le_of_ble_eq_true rfl) rfl ?_
  refine ew_aload_n (t := 1) dX6_init_0 rfl rfl rfl ?_
  refine ew_callIN (t := 4) (As := []) (ax_i5) q408 q409 q63 q410 rfl naX5_init dX6_init_1 rfl (Nat.le_of_ble_eq_true rfl) (Nat.le_of_ble_eq_true rfl) (Nat.le_refl _) (Nat.le_refl _) (Nat.le_of_ble_eq_true rfl) rfl (qv ?_)
  exact ew_vret rfl dX6_init_4 (Nat.le_refl _) (Nat.le_refl _) ⟨rfl, rfl, rfl⟩
set_option maxHeartbeats 600000 in
theorem ax_counted {l : Launch} {G : GW} {h : AH} {n : Nat} {s ce : Nat → Int32} {F : Nat → Nat → Int32} {a b H T S U g wd : Nat} (hn : 63 ≤ n) (x1 : h 1 = some (XO s)) (x16 : h 16 = some (IA 7 ce)) (xt : XT F h) (wk : WKc F a b H T S U g wd) : AM l G yX0_counted cX0_counted 2 (some (.object "SevenRings$Counter")) 32 1 2 [.ref 1] h n (fun r h' n' => r = some (.ref n) ∧ n' = n + 1 ∧ ∃ s' ce', h' = XH (hov h [(n, OB 5 [.int (nI (allW F 0 0 0 a b H T S U).length), .long (wsum (allW F 0 0 0 a b H T S U))])]) s' ce' ∧ kpX s s') := by
  refine AM.of (L := [some (.ref 1), none]) (by decide) (Nat.le_of_ble_eq_true rfl) rfl ?_
  refine ew_new (t := 3) (fs := [.int 0, .long 0]) (h' := (hov h [(n, OB 5 [.int 0, .long 0])])) fcX6 dX0_counted_0 q403 q404 q64 (by decide) (by decide) rfl hov_up0 rfl ?_
  refine ew_dup (t := 4) dX0_counted_3 rfl rfl ?_
  refine ew_callIN (t := 7) (As := []) (ax_i6) q405 q406 q64 q407 rfl naX6_init dX0_counted_4 rfl (Nat.le_of_ble_eq_true rfl) (Nat.le_of_ble_eq_true rfl) (by omega) (by omega) (Nat.le_of_ble_eq_true rfl) rfl (qv ?_)
  refine ew_astore_n (t := 8) (L' := [some (.ref 1), some (.ref n)]) dX0_counted_7 rfl (Nat.le_of_ble_eq_true rfl) rfl rfl ?_
  refine ew_aload_n (t := 9) dX0_counted_8 rfl rfl rfl ?_
  refine ew_aload_n (t := 10) dX0_counted_9 rfl rfl rfl ?_
  refine ew_icm1 (t := 11) dX0_counted_10 rfl ?_
  refine ew_ic0 (t := 12) dX0_counted_11 rfl ?_
  have kb : KB (ctK h n) (F 34) (frX (F 35)) (F 36) := by
    rintro x hb rfl; exact ⟨(hv_miss (by omega)).trans xt.1, (hv_miss (by omega)).trans xt.2.1, (hv_miss (by omega)).trans xt.2.2.1, (hv_miss (by omega)).trans xt.2.2.2.1⟩
  have ga := ax_goAll (l := l) (G := G) (n := (n + 1)) (K := ctK h n) (tS := ctT) (to := n) (x := (0, 0)) kb (wk.cf FLG_0) (tl_C hn) (by decide) wk.2.2.2.1 wk.2.2.1 (hb := (hov h [(n, OB 5 [.int 0, .long 0])])) rfl s ce
  rw [XH_id (hb := (hov h [(n, OB 5 [.int 0, .long 0])])) ((hv_miss (by omega)).trans x1) ((hv_miss (by omega)).trans x16)] at ga
  refine ew_callV (t := 15) (As := [_, _, _]) (ga) (fcX0).1 ((hv_miss (by omega)).trans x1) (lw_V q421 q423 qs10 q51 q424) rfl naX0_goAll dX0_counted_12 rfl (Nat.le_of_ble_eq_true rfl) (Nat.le_of_ble_eq_true rfl) (by omega) (by omega) (Nat.le_of_ble_eq_true rfl) rfl (fun rr h9 n9 qq => ?_)
  obtain ⟨rfl, qn, hb', s', ce', hk', rfl, kp⟩ := qq
  replace qn := qn.symm
  subst qn
  refine ew_aload_n (t := 16) dX0_counted_15 rfl rfl rfl ?_
  exact ew_aret rfl (Or.inl ⟨_, rfl⟩) dX0_counted_16 (by decide) (by decide) ⟨rfl, rfl, by rw [fold_C] at hk'; exact ⟨s', ce', by rw [hk', Int32.zero_add, Int64.zero_add]; rfl, kp⟩⟩
