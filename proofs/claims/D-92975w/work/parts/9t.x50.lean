-- Obj fields dict_keys(['cls', 'fun', 'sname', 'refs', 'extra', 'ups'])
/-! the component: readSea -/
set_option maxRecDepth 100000
theorem ax_readDigit8 {l : Launch} {G : GW} {h : AH} {n : Nat} {s : Nat → Int32} {T : Nat → Int32} {tp a : Nat} {p0 : Int32} (x12 : h 12 = some (BA 60 T)) (h3 : s 3 = nI tp) (h4 : s 4 = nI a) (ha : a ≤ tp) (htp : tp ≤ 60) (hT : okT T tp) : AT l G yX0_readDigit cX0_readDigit 4 (some .int) 1 0 0 [.ref 1, .int 0, .int 8] (hov h [(1, XO s), (11, FO p0)]) n (RdQ s p0 h n (dgR T tp a 0 0 8)) := ax_readDigit x12 h3 h4 ha htp hT (lo := 0) (Or.inr ⟨rfl, rfl⟩)
theorem ax_readDigit6 {l : Launch} {G : GW} {h : AH} {n : Nat} {s : Nat → Int32} {T : Nat → Int32} {tp a : Nat} {p0 : Int32} (x12 : h 12 = some (BA 60 T)) (h3 : s 3 = nI tp) (h4 : s 4 = nI a) (ha : a ≤ tp) (htp : tp ≤ 60) (hT : okT T tp) {lo : Nat} (hlo : lo ≤ 6) : AT l G yX0_readDigit cX0_readDigit 4 (some .int) 1 0 0 [.ref 1, .int (nI lo + 1), .int 6] (hov h [(1, XO s), (11, FO p0)]) n (RdQ s p0 h n (dgR T tp a 0 (nI lo + 1) 6)) := by
  rw [nI_1]
  exact ax_readDigit x12 h3 h4 ha htp hT (lo := lo + 1) (Or.inl ⟨rfl, by omega⟩)
theorem dgR_8 {T : Nat → Int32} {tp a : Nat} {wr : Int32} : ∃ j : Nat, j ≤ 8 ∧ (dgR T tp a wr 0 8).1 = nI j := by
  unfold dgR
  by_cases c1 : wr = 0
  · rw [if_neg (not_not_intro c1)]
    by_cases c2 : b2i (inL (hrC T tp (hrN T tp a)).toInt64 ((48 : Int32) + 0).toInt64 ((48 : Int32) + 8).toInt64) = 0
    · rw [if_neg (not_not_intro c2)]; exact ⟨0, by omega, rfl⟩
    · rw [if_pos c2]
      have h2 := b2i_1.mp c2
      rw [inL_I] at h2
      obtain ⟨j, h3, h4, h5⟩ := inI_nat (c := hrC T tp (hrN T tp a)) (lo := 48) (hi := 56) (by omega) (by omega) h2
      refine ⟨j - 48, by omega, ?_⟩
      show hrC T tp (hrN T tp a) - 48 = nI (j - 48)
      rw [h5, show j = (j - 48) + 48 by omega, show (48 : Int32) = nI 48 from rfl, nI_sub2]
      congr 1
  · rw [if_pos c1]; exact ⟨0, by omega, rfl⟩
theorem seS_stuck {T : Nat → Int32} {tp : Nat} {f : Nat → Int32} {k : Nat} (h : ¬ (seS T tp f k).2.1 = 0) : ∀ j, (seS T tp f (k + j)).1 = (seS T tp f k).1 ∧ ¬ (seS T tp f (k + j)).2.1 = 0
  | 0 => ⟨rfl, h⟩
  | j + 1 => by
    obtain ⟨h1, h2⟩ := seS_stuck h j
    have e : dgR T tp (seS T tp f (k + j)).1 (seS T tp f (k + j)).2.1 0 8 = (0, (seS T tp f (k + j)).1, 1) := if_pos h2
    constructor
    · show (dgR T tp (seS T tp f (k + j)).1 (seS T tp f (k + j)).2.1 0 8).2.1 = _
      rw [e]; exact h1
    · show ¬ (dgR T tp (seS T tp f (k + j)).1 (seS T tp f (k + j)).2.1 0 8).2.2 = 0
      rw [e]; show ¬ (1 : Int32) = 0; decide
theorem seS_f {T : Nat → Int32} {tp : Nat} {f g : Nat → Int32} : ∀ k, (seS T tp f k).1 = (seS T tp g k).1 ∧ (seS T tp f k).2.1 = (seS T tp g k).2.1 ∧ (seS T tp f k).2.2.1 = (seS T tp g k).2.2.1 ∧ ∀ j, j < k → (seS T tp f k).2.2.2 j = (seS T tp g k).2.2.2 j
  | 0 => ⟨rfl, rfl, rfl, fun j hj => by omega⟩
  | k + 1 => by
    obtain ⟨h1, h2, h3, h4⟩ := seS_f (f := f) (g := g) k
    refine ⟨?_, ?_, ?_, fun j hj => ?_⟩
    · show (dgR T tp (seS T tp f k).1 (seS T tp f k).2.1 0 8).2.1 = (dgR T tp (seS T tp g k).1 (seS T tp g k).2.1 0 8).2.1
      rw [h1, h2]
    · show (dgR T tp (seS T tp f k).1 (seS T tp f k).2.1 0 8).2.2 = (dgR T tp (seS T tp g k).1 (seS T tp g k).2.1 0 8).2.2
      rw [h1, h2]
    · show (seS T tp f k).2.2.1 + _ = (seS T tp g k).2.2.1 + _
      rw [h1, h2, h3]
    · show upd (seS T tp f k).2.2.2 k _ j = upd (seS T tp g k).2.2.2 k _ j
      by_cases e : j = k
      · subst e; rw [pk_us, pk_us, h1, h2]
      · rw [pk_un e, pk_un e]; exact h4 j (by omega)
/-- behind readSea: Z says what was read -/
def seW (T : Nat → Int32) (tp : Nat) (Z : Nat × Int32 × Int32 × (Nat → Int32)) : Bool := !(decide (Z.2.1 = 0) && decide (hrC T tp (hrN T tp Z.1) = 0))
def seP (T : Nat → Int32) (tp : Nat) (Z : Nat × Int32 × Int32 × (Nat → Int32)) : Nat := if Z.2.1 = 0 then hrN T tp Z.1 else Z.1
def SeQ (s : Nat → Int32) (T : Nat → Int32) (tp : Nat) (h : AH) (n : Nat) (Z : Nat × Int32 × Int32 × (Nat → Int32)) : Option Value → AH → Nat → Prop := fun r h' n' => n' = n ∧ ∃ (p : Int32) (f : Nat → Int32), h' = hov h [(1, XO (upd s 4 (nI (seP T tp Z)))), (11, FO p), (15, BA 10 f)] ∧ ((seW T tp Z = true ∧ r = some (.retAddr 12) ∧ p = nI (seP T tp Z)) ∨ (seW T tp Z = false ∧ r = none ∧ f = Z.2.2.2))
theorem upd_upd {f : Nat → Int32} {k : Nat} {x y : Int32} : upd (upd f k x) k y = upd f k y := by
  funext j
  by_cases h : j = k
  · rw [h, pk_us, pk_us]
  · rw [pk_un h, pk_un h, pk_un h]
theorem sea_s {T : Nat → Int32} {tp : Nat} {f : Nat → Int32} {k : Nat} (h0 : (seS T tp f k).2.1 = 0) (hw : (dgR T tp (seS T tp f k).1 0 0 8).2.2 = 0) : (seS T tp f (k + 1)).1 = (dgR T tp (seS T tp f k).1 0 0 8).2.1 ∧ (seS T tp f (k + 1)).2.1 = 0 ∧ (seS T tp f (k + 1)).2.2.2 = upd (seS T tp f k).2.2.2 k (dgR T tp (seS T tp f k).1 0 0 8).1 := by
  refine ⟨?_, ?_, ?_⟩
  · show (dgR T tp (seS T tp f k).1 (seS T tp f k).2.1 0 8).2.1 = _
    rw [h0]
  · show (dgR T tp (seS T tp f k).1 (seS T tp f k).2.1 0 8).2.2 = _
    rw [h0]; exact hw
  · show upd (seS T tp f k).2.2.2 k (dgR T tp (seS T tp f k).1 (seS T tp f k).2.1 0 8).1 = _
    rw [h0]
theorem sea_t {s T : Nat → Int32} {tp : Nat} {h : AH} {n : Nat} {f0 : Nat → Int32} {k : Nat} (h0 : (seS T tp f0 k).2.1 = 0) (hw : ¬ (dgR T tp (seS T tp f0 k).1 0 0 8).2.2 = 0) (hk : k < 10) : SeQ s T tp h n (seS T tp f0 10) (some (.retAddr (11 + 1))) (hov (hov h [(15, BA 10 (seS T tp f0 k).2.2.2)]) [(1, XO (upd (upd s 4 (nI (seS T tp f0 k).1)) 4 (nI (dgR T tp (seS T tp f0 k).1 0 0 8).2.1))), (11, FO (nI (dgR T tp (seS T tp f0 k).1 0 0 8).2.1))]) n := by
  have h1 : ¬ (seS T tp f0 (k + 1)).2.1 = 0 := by
    show ¬ (dgR T tp (seS T tp f0 k).1 (seS T tp f0 k).2.1 0 8).2.2 = 0
    rw [h0]; exact hw
  have h2 := seS_stuck h1 (9 - k)
  rw [show k + 1 + (9 - k) = 10 by omega] at h2
  have h3 : (seS T tp f0 (k + 1)).1 = (dgR T tp (seS T tp f0 k).1 0 0 8).2.1 := by
    show (dgR T tp (seS T tp f0 k).1 (seS T tp f0 k).2.1 0 8).2.1 = _
    rw [h0]
  have h4 : seP T tp (seS T tp f0 10) = (dgR T tp (seS T tp f0 k).1 0 0 8).2.1 := by
    unfold seP
    rw [if_neg h2.2, h2.1, h3]
  refine ⟨rfl, nI (dgR T tp (seS T tp f0 k).1 0 0 8).2.1, (seS T tp f0 k).2.2.2, ?_, Or.inl ⟨?_, rfl, by rw [h4]⟩⟩
  · rw [h4, upd_upd]; rfl
  · unfold seW
    rw [decide_eq_false h2.2]; rfl
set_option maxHeartbeats 600000 in
theorem lx_sea1 {l : Launch} {G : GW} {h : AH} {n : Nat} {s : Nat → Int32} {T : Nat → Int32} {tp : Nat} {p0 : Int32} (x12 : h 12 = some (BA 60 T)) (h3 : s 3 = nI tp) (htp : tp ≤ 60) (hT : okT T tp) {f0 : Nat → Int32} (kk : (seS T tp f0 10).2.1 = 0 → EW l G yX0_readSea cX0_readSea 2 none 2 0 0 (SeQ s T tp h n (seS T tp f0 10)) 0 0 (hov h [(1, OB 0 (XOf (upd s 4 (nI (seS T tp f0 10).1)))), (11, OB 2 [.null, .null, .null, .null, .null, .int 0, .int p0]), (15, BA 10 ((seS T tp f0 10).2.2.2))]) n 33 [some (.ref 1), some (.int (nI 10))] []) : ∀ (f k : Nat), k + f = 10 → (seS T tp f0 k).2.1 = 0 → EW l G yX0_readSea cX0_readSea 2 none 2 0 0 (SeQ s T tp h n (seS T tp f0 10)) 0 0 (hov h [(1, OB 0 (XOf (upd s 4 (nI (seS T tp f0 k).1)))), (11, OB 2 [.null, .null, .null, .null, .null, .int 0, .int p0]), (15, BA 10 ((seS T tp f0 k).2.2.2))]) n 7 [some (.ref 1), some (.int (nI k))] [] := by
  intro f
  induction f with
  | zero =>
    intro k  hk h0
    refine ew_iload_n (t := 8) dX0_readSea_7 rfl rfl rfl ?_
    refine ew_bipush (t := 10) (v := 10) dX0_readSea_8 (by decide) rfl ?_
    refine ew_icmp_ge (t := 33) (t2 := 13) dX0_readSea_10 rfl rfl (fun c_10 => ?_) (fun c_10 => ?_)
    · have ek : k = 10 := by omega
      subst ek
      exact kk h0
    · exact absurd (show (10 : Int32) ≤ nI k by rw [show k = 10 by omega]; decide) c_10
  | succ f ih =>
    intro k  hk h0
    refine ew_iload_n (t := 8) dX0_readSea_7 rfl rfl rfl ?_
    refine ew_bipush (t := 10) (v := 10) dX0_readSea_8 (by decide) rfl ?_
    refine ew_icmp_ge (t := 33) (t2 := 13) dX0_readSea_10 rfl rfl (fun c_10 => ?_) (fun c_10 => ?_)
    · exact absurd c_10 (nI_ge (b := 10) (by omega) (by omega))
    · refine ew_aload_n (t := 14) dX0_readSea_13 rfl rfl rfl ?_
      refine ew_get (t := 17) (j := 7) (v := .ref 15) fcX0 rfl (Nat.le_of_ble_eq_true rfl) q262 rfl dX0_readSea_14 rfl ?_
      refine ew_iload_n (t := 18) dX0_readSea_17 rfl rfl rfl ?_
      refine ew_aload_n (t := 19) dX0_readSea_18 rfl rfl rfl ?_
      refine ew_ic0 (t := 20) dX0_readSea_19 rfl ?_
      refine ew_bipush (t := 22) (v := 8) dX0_readSea_20 (by decide) rfl ?_
      refine ew_callVT (t := 25) (As := [_, _]) (ax_readDigit8 (h := hov h [(15, BA 10 (seS T tp f0 k).2.2.2)]) (s := (upd s 4 (nI (seS T tp f0 k).1))) (p0 := p0) (a := (seS T tp f0 k).1) x12 h3 rfl (seS_le htp k) htp hT) (fcX0).1 rfl (lw_V q364 q366 qs3 q51 q367) rfl naX0_readDigit dX0_readSea_22 rfl (Nat.le_of_ble_eq_true rfl) (Nat.le_of_ble_eq_true rfl) (Nat.le_refl _) (Nat.le_refl _) (Nat.le_of_ble_eq_true rfl) rfl (fun r h1 n1 q hnr => ?_) (fun x h1 n1 q => by
      obtain ⟨q1, q2, q3, q4⟩ := RdQ.no q
      replace q2 := q2.symm
      subst q2 q3 q4
      refine et_leave (by decide +kernel) (by decide +kernel) (Nat.le_refl _) (Nat.le_refl _) ?_
      exact sea_t h0 q1 (by omega))
      obtain ⟨hw, q2, q3, q4⟩ := RdQ.ok q hnr
      replace q2 := q2.symm
      subst q2 q3 q4
      refine EW.heap (h' := (hov h [(1, OB 0 (XOf (upd s 4 (nI (dgR T tp (seS T tp f0 k).1 0 0 8).2.1)))), (11, OB 2 [.null, .null, .null, .null, .null, .int 0, .int p0]), (15, BA 10 ((seS T tp f0 k).2.2.2))])) (by rw [upd_upd]; rfl) ?_
      obtain ⟨j, hj, ej⟩ := dgR_8 (T := T) (tp := tp) (a := (seS T tp f0 k).1) (wr := 0)
      refine ew_i2b (t := 26) dX0_readSea_25 rfl ?_
      rw [ej, i8_s j (by omega)]
      refine ew_bast (t := 27) (j := k) (N := 10) (h' := (hov h [(1, OB 0 (XOf (upd s 4 (nI (dgR T tp (seS T tp f0 k).1 0 0 8).2.1)))), (11, OB 2 [.null, .null, .null, .null, .null, .int 0, .int p0]), (15, BA 10 (upd ((seS T tp f0 k).2.2.2) k (vp_nar .byte (nI j))))])) rfl (vp_in_nI (by omega) (by omega)) (nI_clamp (by omega)) dX0_readSea_26 (hov_up rfl) rfl ?_
      refine ew_iinc (t := 30) (x := (nI k)) (v := ((nI k) + 1)) (L' := [some (.ref 1), some (.int ((nI k) + 1))]) dX0_readSea_27 rfl rfl (Nat.le_of_ble_eq_true rfl) rfl rfl ?_
      refine ew_goto (t := 7) dX0_readSea_30 rfl ?_
      rw [nI_1]
      have e1 := sea_s (f := f0) (k := k) h0 hw
      rw [nar_s j (by omega), ← ej, ← e1.1, ← e1.2.2]
      exact ih (k + 1) (by omega) e1.2.1
theorem nb_neg {T : Nat → Int32} {tp a : Nat} (hT : okT T tp) (htp : tp ≤ 60) (ha : a ≤ tp) (h : hrC T tp a = 0) : nbC T tp a = -1 := by
  rcases nb_cases hT htp ha with ⟨h1, h2, -⟩ | ⟨z, h1, h2, h3, h4, -⟩
  · exact h1
  · rw [h4] at h
    have := nI_inj (p := z) (q := 0) (by omega) (by omega) h
    omega
theorem nb_neg' {T : Nat → Int32} {tp a : Nat} (hT : okT T tp) (htp : tp ≤ 60) (ha : a ≤ tp) (h : nbC T tp a < 0) : hrC T tp a = 0 := by
  rcases nb_cases hT htp ha with ⟨h1, h2, -⟩ | ⟨z, h1, h2, h3, h4, -⟩
  · exact h2
  · rw [h3] at h
    exact absurd h (nI_pos (by omega))
set_option maxHeartbeats 600000 in
theorem ax_readSea {l : Launch} {G : GW} {h : AH} {n : Nat} {s : Nat → Int32} {T : Nat → Int32} {tp : Nat} {p0 : Int32} (x12 : h 12 = some (BA 60 T)) (h3 : s 3 = nI tp) (htp : tp ≤ 60) (hT : okT T tp) {f0 : Nat → Int32} (x15 : h 15 = some (BA 10 f0)) : AT l G yX0_readSea cX0_readSea 2 none 2 0 0 [.ref 1] (hov h [(1, OB 0 (XOf s)), (11, OB 2 [.null, .null, .null, .null, .null, .int 0, .int p0])]) n (SeQ s T tp h n (seS T tp f0 10)) := by
  refine AT.of (L := [some (.ref 1), none]) (by decide) (Nat.le_of_ble_eq_true rfl) rfl ?_
  refine ew_aload_n (t := 1) dX0_readSea_0 rfl rfl rfl ?_
  refine ew_ic0 (t := 2) dX0_readSea_1 rfl ?_
  refine ew_put (t := 5) (j := 4) (fs' := XOf (upd s 4 0)) (h' := (hov h [(1, OB 0 (XOf (upd s 4 0))), (11, OB 2 [.null, .null, .null, .null, .null, .int 0, .int p0])])) fcX0 rfl (Nat.le_of_ble_eq_true rfl) rfl q259 rfl rfl (Nat.le_of_ble_eq_true rfl) rfl dX0_readSea_2 (hov_up rfl) rfl ?_
  refine ew_ic0 (t := 6) dX0_readSea_5 rfl ?_
  refine ew_istore_n (t := 7) (L' := [some (.ref 1), some (.int 0)]) dX0_readSea_6 rfl (Nat.le_of_ble_eq_true rfl) rfl rfl ?_
  refine EW.heap (h' := hov h [(1, XO (upd s 4 (nI (seS T tp f0 0).1))), (11, FO p0), (15, BA 10 (seS T tp f0 0).2.2.2)]) (by exact (hov_mid x15 (l2 := []) (by intro q hq; cases hq) [(1, XO (upd s 4 0)), (11, FO p0)]).symm) ?_
  refine lx_sea1 (s := s) (p0 := p0) (f0 := f0) x12 h3 htp hT (fun h0 => ?_) 10 0 (by omega) rfl
  refine ew_aload_n (t := 34) dX0_readSea_33 rfl rfl rfl ?_
  refine ew_callV (t := 37) (As := []) (ax_next (h := hov h [(11, FO p0), (15, BA 10 (seS T tp f0 10).2.2.2)]) (s := (upd s 4 (nI (seS T tp f0 10).1))) (a := (seS T tp f0 10).1) x12 h3 rfl (seS_le htp 10) htp) (fcX0).1 rfl (lw_V q368 q370 qs4 q51 q371) rfl naX0_nextByte dX0_readSea_34 rfl (Nat.le_of_ble_eq_true rfl) (Nat.le_of_ble_eq_true rfl) (Nat.le_refl _) (Nat.le_refl _) (Nat.le_of_ble_eq_true rfl) rfl (qi ?_)
  refine EW.heap (h' := (hov h [(1, OB 0 (XOf (upd s 4 (nI (hrN T tp (seS T tp f0 10).1))))), (11, OB 2 [.null, .null, .null, .null, .null, .int 0, .int p0]), (15, BA 10 ((seS T tp f0 10).2.2.2))])) (by rw [upd_upd]; rfl) ?_
  refine ew_if_lt (t := 45) (t2 := 40) dX0_readSea_37 rfl rfl (fun c_37 => ?_) (fun c_37 => ?_)
  · exact ew_vret rfl dX0_readSea_45 (Nat.le_refl _) (Nat.le_refl _) ⟨rfl, p0, _, by rw [seP, if_pos h0], Or.inr ⟨by unfold seW; rw [decide_eq_true h0, decide_eq_true (nb_neg' hT htp (hrN_le (seS_le htp 10)).2 c_37)]; rfl, rfl, rfl⟩⟩
  · refine ew_aload_n (t := 41) dX0_readSea_40 rfl rfl rfl ?_
    refine ew_callV (t := 44) (As := []) (ax_wrong (h := hov h [(15, BA 10 (seS T tp f0 10).2.2.2)]) (s := (upd s 4 (nI (hrN T tp (seS T tp f0 10).1)))) (p0 := p0)) (fcX0).1 rfl (lw_V q372 q374 qs5 q51 q375) rfl naX0_wrong dX0_readSea_41 rfl (Nat.le_of_ble_eq_true rfl) (Nat.le_of_ble_eq_true rfl) (Nat.le_refl _) (Nat.le_refl _) (Nat.le_of_ble_eq_true rfl) rfl (qr ?_)
    refine ew_athrow dX0_readSea_44 ?_
    refine et_leave (by decide +kernel) (by decide +kernel) (Nat.le_refl _) (Nat.le_refl _) ?_
    refine ⟨rfl, nI (hrN T tp (seS T tp f0 10).1), (seS T tp f0 10).2.2.2, ?_, Or.inl ⟨?_, rfl, by rw [seP, if_pos h0]⟩⟩
    · rw [seP, if_pos h0]; rfl
    · unfold seW; rw [decide_eq_false (p := hrC T tp (hrN T tp (seS T tp f0 10).1) = 0) (fun q => c_37 (by rw [nb_neg hT htp (hrN_le (seS_le htp 10)).2 q]; decide)), Bool.and_false]; rfl
