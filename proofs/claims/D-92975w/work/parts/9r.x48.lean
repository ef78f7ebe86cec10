-- Obj fields dict_keys(['cls', 'fun', 'sname', 'refs', 'extra', 'ups'])
/-! the component: readDigit, readFar -/
set_option maxRecDepth 100000
/-- behind a reading that may throw: p says the answer, the place, wrong -/
def RdQ (s : Nat → Int32) (p0 : Int32) (h : AH) (n : Nat) (p : Int32 × Nat × Int32) : Option Value → AH → Nat → Prop := fun r h' n' => n' = n ∧ h' = hov h [(1, XO (upd s 4 (nI p.2.1))), (11, FO (if p.2.2 = 0 then p0 else nI p.2.1))] ∧ r = if p.2.2 = 0 then some (.int p.1) else some (.retAddr 12)
theorem RdQ.ok {s : Nat → Int32} {p0 : Int32} {h h1 : AH} {n n1 : Nat} {p : Int32 × Nat × Int32} {r : Option Value} (q : RdQ s p0 h n p r h1 n1) (hr : nrt r = true) : p.2.2 = 0 ∧ n1 = n ∧ r = some (.int p.1) ∧ h1 = hov h [(1, XO (upd s 4 (nI p.2.1))), (11, FO p0)] := by
  obtain ⟨rfl, rfl, rfl⟩ := q
  by_cases e : p.2.2 = 0
  · rw [if_pos e, if_pos e]; exact ⟨e, rfl, rfl, rfl⟩
  · rw [if_neg e] at hr; exact absurd hr (by decide)
theorem RdQ.no {s : Nat → Int32} {p0 : Int32} {h h1 : AH} {n n1 x : Nat} {p : Int32 × Nat × Int32} (q : RdQ s p0 h n p (some (.retAddr (x + 1))) h1 n1) : ¬ p.2.2 = 0 ∧ n1 = n ∧ x = 11 ∧ h1 = hov h [(1, XO (upd s 4 (nI p.2.1))), (11, FO (nI p.2.1))] := by
  obtain ⟨rfl, rfl, hr⟩ := q
  by_cases e : p.2.2 = 0
  · rw [if_pos e] at hr; cases hr
  · rw [if_neg e] at hr ⊢
    cases hr
    exact ⟨e, rfl, rfl, rfl⟩
theorem RdQ.ret {s : Nat → Int32} {p0 : Int32} {h : AH} {n : Nat} {v : Int32} {a : Nat} : RdQ s p0 h n (v, a, 0) (some (.int v)) (hov h [(1, XO (upd s 4 (nI a))), (11, FO p0)]) n := ⟨rfl, rfl, rfl⟩
theorem RdQ.thr {s : Nat → Int32} {p0 : Int32} {h : AH} {n : Nat} {v : Int32} {a : Nat} : RdQ s p0 h n (v, a, 1) (some (.retAddr (11 + 1))) (hov h [(1, XO (upd s 4 (nI a))), (11, FO (nI a))]) n := ⟨rfl, rfl, rfl⟩
theorem dg_68 : ∀ z, z < 127 → (∀ lo, lo < 8 → b2i (inI (nI z - 48) (nI lo) 6) = b2i (inL (nI z).toInt64 ((48 : Int32) + nI lo).toInt64 ((48 : Int32) + 6).toInt64)) ∧ b2i (inI (nI z - 48) 0 8) = b2i (inL (nI z).toInt64 ((48 : Int32) + 0).toInt64 ((48 : Int32) + 8).toInt64) := by decide +kernel
theorem dg_m1 : (∀ lo, lo < 8 → b2i (inI ((-1) - 48) (nI lo) 6) = b2i (inL (0 : Int32).toInt64 ((48 : Int32) + nI lo).toInt64 ((48 : Int32) + 6).toInt64)) ∧ b2i (inI ((-1) - 48) 0 8) = b2i (inL (0 : Int32).toInt64 ((48 : Int32) + 0).toInt64 ((48 : Int32) + 8).toInt64) := by decide +kernel
theorem dg_7 : ∀ z, z < 127 → b2i (inI (nI z) 48 57) = b2i (inL (nI z).toInt64 48 57) := by decide +kernel
theorem dg_x {T : Nat → Int32} {tp a lo : Nat} {hi : Int32} (hT : okT T tp) (htp : tp ≤ 60) (ha : a ≤ tp) (hl : (hi = 6 ∧ lo < 8) ∨ (hi = 8 ∧ lo = 0)) : b2i (inI (nbC T tp a - 48) (nI lo) hi) = b2i (inL (hrC T tp a).toInt64 ((48 : Int32) + nI lo).toInt64 ((48 : Int32) + hi).toInt64) := by
  rcases nb_cases hT htp ha with ⟨h1, h2, -⟩ | ⟨z, h1, h2, h3, h4, -⟩
  · rw [h1, h2]
    rcases hl with ⟨rfl, hl⟩ | ⟨rfl, rfl⟩
    · exact dg_m1.1 lo hl
    · exact dg_m1.2
  · rw [h3, h4]
    rcases hl with ⟨rfl, hl⟩ | ⟨rfl, rfl⟩
    · exact (dg_68 z h2).1 lo hl
    · exact (dg_68 z h2).2
theorem nb_v {T : Nat → Int32} {tp a : Nat} {lo hi : Int32} (hT : okT T tp) (htp : tp ≤ 60) (ha : a ≤ tp) (h : ¬ b2i (inI (nbC T tp a - 48) lo hi) = 0) (hlo : 0 ≤ lo) : nbC T tp a = hrC T tp a := by
  rcases nb_cases hT htp ha with ⟨h1, h2, -⟩ | ⟨z, h1, h2, h3, h4, -⟩
  · exfalso
    rw [h1] at h
    have h5 := (inI_iff.mp (b2i_1.mp h)).1
    exact absurd (Int32.le_trans hlo h5) (by decide)
  · rw [h3, h4]
set_option maxHeartbeats 600000 in
theorem ax_readDigit {l : Launch} {G : GW} {h : AH} {n : Nat} {s : Nat → Int32} {T : Nat → Int32} {tp a : Nat} {p0 : Int32} (x12 : h 12 = some (BA 60 T)) (h3 : s 3 = nI tp) (h4 : s 4 = nI a) (ha : a ≤ tp) (htp : tp ≤ 60) (hT : okT T tp) {lo : Nat} {hi : Int32} (hl : (hi = 6 ∧ lo < 8) ∨ (hi = 8 ∧ lo = 0)) : AT l G yX0_readDigit cX0_readDigit 4 (some .int) 1 0 0 [.ref 1, .int (nI lo), .int hi] (hov h [(1, OB 0 (XOf s)), (11, OB 2 [.null, .null, .null, .null, .null, .int 0, .int p0])]) n (RdQ s p0 h n (dgR T tp a 0 (nI lo) hi)) := by
  refine AT.of (L := [some (.ref 1), some (.int (nI lo)), some (.int hi), none]) (by decide) (Nat.le_of_ble_eq_true rfl) rfl ?_
  refine ew_aload_n (t := 1) dX0_readDigit_0 rfl rfl rfl ?_
  refine ew_callV (t := 4) (As := []) (ax_next (h := hov h [(11, FO p0)]) (s := s) (a := a) x12 h3 h4 ha htp) (fcX0).1 rfl (lw_V q368 q370 qs4 q51 q371) rfl naX0_nextByte dX0_readDigit_1 rfl (Nat.le_of_ble_eq_true rfl) (Nat.le_of_ble_eq_true rfl) (Nat.le_refl _) (Nat.le_refl _) (Nat.le_of_ble_eq_true rfl) rfl (qi ?_)
  refine ew_bipush (t := 6) (v := 48) dX0_readDigit_4 (by decide) rfl ?_
  refine ew_isub (t := 7) dX0_readDigit_6 rfl ?_
  refine ew_istore_n (t := 8) (L' := [some (.ref 1), some (.int (nI lo)), some (.int hi), some (.int ((nbC T tp (hrN T tp a)) - 48))]) dX0_readDigit_7 rfl (Nat.le_of_ble_eq_true rfl) rfl rfl ?_
  refine ew_iload_n (t := 9) dX0_readDigit_8 rfl rfl rfl ?_
  refine ew_iload_n (t := 10) dX0_readDigit_9 rfl rfl rfl ?_
  refine ew_iload_n (t := 11) dX0_readDigit_10 rfl rfl rfl ?_
  refine ew_callS (t := 14) (As := [_, _, _]) (ax_isIn _ _ _) (lw_S q330 q331 q51 q332) naX0_isIn dX0_readDigit_11 rfl (Nat.le_of_ble_eq_true rfl) (Nat.le_of_ble_eq_true rfl) (Nat.le_refl _) (Nat.le_refl _) (Nat.le_of_ble_eq_true rfl) rfl (qi ?_)
  refine ew_if_ne (t := 22) (t2 := 17) dX0_readDigit_14 rfl rfl (fun c_14 => ?_) (fun c_14 => ?_)
  · refine ew_aload_n (t := 23) dX0_readDigit_22 rfl rfl rfl ?_
    refine ew_dup (t := 24) dX0_readDigit_23 rfl rfl ?_
    refine ew_get (t := 27) (j := 4) (v := .int (nI (hrN T tp a))) fcX0 rfl (Nat.le_of_ble_eq_true rfl) q259 rfl dX0_readDigit_24 rfl ?_
    refine ew_ic1 (t := 28) dX0_readDigit_27 rfl ?_
    refine ew_iadd (t := 29) dX0_readDigit_28 rfl ?_
    refine ew_put (t := 32) (j := 4) (fs' := XOf (upd s 4 ((nI (hrN T tp a)) + 1))) (h' := (hov h [(1, OB 0 (XOf (upd s 4 ((nI (hrN T tp a)) + 1)))), (11, OB 2 [.null, .null, .null, .null, .null, .int 0, .int p0])])) fcX0 rfl (Nat.le_of_ble_eq_true rfl) rfl q259 rfl rfl (Nat.le_of_ble_eq_true rfl) rfl dX0_readDigit_29 (hov_up rfl) rfl ?_
    refine ew_iload_n (t := 33) dX0_readDigit_32 rfl rfl rfl ?_
    exact ew_iret rfl dX0_readDigit_33 (Nat.le_refl _) (Nat.le_refl _) (by rw [nI_1, show dgR T tp a 0 (nI lo) hi = (hrC T tp (hrN T tp a) - 48, hrN T tp a + 1, 0) from by unfold dgR; rw [if_neg (not_not_intro rfl), if_pos (by rw [← (dg_x hT htp (hrN_le ha).2 hl)]; exact c_14)], ← nb_v hT htp (hrN_le ha).2 c_14 (nI_nn (by omega))]; exact RdQ.ret)
  · refine ew_aload_n (t := 18) dX0_readDigit_17 rfl rfl rfl ?_
    refine ew_callV (t := 21) (As := []) (ax_wrong (h := h) (s := (upd s 4 (nI (hrN T tp a)))) (p0 := p0)) (fcX0).1 rfl (lw_V q372 q374 qs5 q51 q375) rfl naX0_wrong dX0_readDigit_18 rfl (Nat.le_of_ble_eq_true rfl) (Nat.le_of_ble_eq_true rfl) (Nat.le_refl _) (Nat.le_refl _) (Nat.le_of_ble_eq_true rfl) rfl (qr ?_)
    refine ew_athrow dX0_readDigit_21 ?_
    refine et_leave (by decide +kernel) (by decide +kernel) (Nat.le_refl _) (Nat.le_refl _) ?_
    exact (by rw [show dgR T tp a 0 (nI lo) hi = (0, hrN T tp a, 1) from by unfold dgR; rw [if_neg (not_not_intro rfl), if_neg (not_not_intro (by rw [← (dg_x hT htp (hrN_le ha).2 hl)]; exact c_14))]]; exact RdQ.thr)
