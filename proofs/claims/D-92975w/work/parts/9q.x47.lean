-- Obj fields dict_keys(['cls', 'fun', 'sname', 'refs', 'extra', 'ups'])
/-! the component: nextByte, takes, wrong -/
set_option maxRecDepth 100000
def nbC (T : Nat → Int32) (tp a : Nat) : Int32 := if nI tp ≤ nI a then -1 else T a
def tkI (T : Nat → Int32) (tp a : Nat) (c : Int32) : Int32 := if nbC T tp (hrN T tp a) = c then 1 else 0
def tkA (T : Nat → Int32) (tp a : Nat) (c : Int32) : Nat := if nbC T tp (hrN T tp a) = c then hrN T tp a + 1 else hrN T tp a
set_option maxHeartbeats 600000 in
theorem lx_nextB {l : Launch} {G : GW} {h : AH} {n : Nat} {s : Nat → Int32} {T : Nat → Int32} {tp : Nat} (x12 : h 12 = some (BA 60 T)) (h3 : s 3 = nI tp) (htp : tp ≤ 60) : ∀ (f k : Nat), k + f = tp → EW l G yX0_nextByte cX0_nextByte 1 (some .int) 0 0 0 (Qi (nbC T tp (hrA T f k)) (hov h [(1, XO (upd s 4 (nI (hrA T f k))))]) n) 0 0 (hov h [(1, OB 0 (XOf (upd s 4 (nI k))))]) n 0 [some (.ref 1)] [] := by
  intro f
  induction f with
  | zero =>
    intro k  hk
    refine ew_aload_n (t := 1) dX0_nextByte_0 rfl rfl rfl ?_
    refine ew_get (t := 4) (j := 4) (v := .int (nI k)) fcX0 rfl (Nat.le_of_ble_eq_true rfl) q259 rfl dX0_nextByte_1 rfl ?_
    refine ew_aload_n (t := 5) dX0_nextByte_4 rfl rfl rfl ?_
    refine ew_get (t := 8) (j := 3) (v := .int (s 3)) fcX0 rfl (Nat.le_of_ble_eq_true rfl) q258 rfl dX0_nextByte_5 rfl ?_
    rw [h3]
    refine ew_icmp_ge (t := 38) (t2 := 11) dX0_nextByte_8 rfl rfl (fun c_8 => ?_) (fun c_8 => ?_)
    · refine ew_aload_n (t := 39) dX0_nextByte_38 rfl rfl rfl ?_
      refine ew_get (t := 42) (j := 4) (v := .int (nI k)) fcX0 rfl (Nat.le_of_ble_eq_true rfl) q259 rfl dX0_nextByte_39 rfl ?_
      refine ew_aload_n (t := 43) dX0_nextByte_42 rfl rfl rfl ?_
      refine ew_get (t := 46) (j := 3) (v := .int (s 3)) fcX0 rfl (Nat.le_of_ble_eq_true rfl) q258 rfl dX0_nextByte_43 rfl ?_
      rw [h3]
      refine ew_icmp_ge (t := 61) (t2 := 49) dX0_nextByte_46 rfl rfl (fun c_46 => ?_) (fun c_46 => ?_)
      · refine ew_icm1 (t := 62) dX0_nextByte_61 rfl ?_
        exact ew_iret rfl dX0_nextByte_62 (Nat.le_refl _) (Nat.le_refl _) ⟨by rw [hrA, nbC, if_pos c_8], rfl, rfl⟩
      · exact absurd c_8 c_46
    · exact absurd c_8 (by rw [show k = tp by omega]; exact not_not_intro (Int32.le_refl _))
  | succ f ih =>
    intro k  hk
    refine ew_aload_n (t := 1) dX0_nextByte_0 rfl rfl rfl ?_
    refine ew_get (t := 4) (j := 4) (v := .int (nI k)) fcX0 rfl (Nat.le_of_ble_eq_true rfl) q259 rfl dX0_nextByte_1 rfl ?_
    refine ew_aload_n (t := 5) dX0_nextByte_4 rfl rfl rfl ?_
    refine ew_get (t := 8) (j := 3) (v := .int (s 3)) fcX0 rfl (Nat.le_of_ble_eq_true rfl) q258 rfl dX0_nextByte_5 rfl ?_
    rw [h3]
    refine ew_icmp_ge (t := 38) (t2 := 11) dX0_nextByte_8 rfl rfl (fun c_8 => ?_) (fun c_8 => ?_)
    · exact absurd c_8 (nI_ge (by omega) (by omega))
    · refine ew_aload_n (t := 12) dX0_nextByte_11 rfl rfl rfl ?_
      refine ew_get (t := 15) (j := 2) (v := .ref 12) fcX0 rfl (Nat.le_of_ble_eq_true rfl) q257 rfl dX0_nextByte_12 rfl ?_
      refine ew_aload_n (t := 16) dX0_nextByte_15 rfl rfl rfl ?_
      refine ew_get (t := 19) (j := 4) (v := .int (nI k)) fcX0 rfl (Nat.le_of_ble_eq_true rfl) q259 rfl dX0_nextByte_16 rfl ?_
      refine ew_bald (t := 20) (j := k) (N := 60) x12 (vp_in_nI (by omega) (by omega)) (nI_clamp (by omega)) dX0_nextByte_19 rfl ?_
      refine ew_bipush (t := 22) (v := 32) dX0_nextByte_20 (by decide) rfl ?_
      refine ew_icmp_ne (t := 38) (t2 := 25) dX0_nextByte_22 rfl rfl (fun c_22 => ?_) (fun c_22 => ?_)
      · refine ew_aload_n (t := 39) dX0_nextByte_38 rfl rfl rfl ?_
        refine ew_get (t := 42) (j := 4) (v := .int (nI k)) fcX0 rfl (Nat.le_of_ble_eq_true rfl) q259 rfl dX0_nextByte_39 rfl ?_
        refine ew_aload_n (t := 43) dX0_nextByte_42 rfl rfl rfl ?_
        refine ew_get (t := 46) (j := 3) (v := .int (s 3)) fcX0 rfl (Nat.le_of_ble_eq_true rfl) q258 rfl dX0_nextByte_43 rfl ?_
        rw [h3]
        refine ew_icmp_ge (t := 61) (t2 := 49) dX0_nextByte_46 rfl rfl (fun c_46 => ?_) (fun c_46 => ?_)
        · exact absurd c_46 c_8
        · refine ew_aload_n (t := 50) dX0_nextByte_49 rfl rfl rfl ?_
          refine ew_get (t := 53) (j := 2) (v := .ref 12) fcX0 rfl (Nat.le_of_ble_eq_true rfl) q257 rfl dX0_nextByte_50 rfl ?_
          refine ew_aload_n (t := 54) dX0_nextByte_53 rfl rfl rfl ?_
          refine ew_get (t := 57) (j := 4) (v := .int (nI k)) fcX0 rfl (Nat.le_of_ble_eq_true rfl) q259 rfl dX0_nextByte_54 rfl ?_
          refine ew_bald (t := 58) (j := k) (N := 60) x12 (vp_in_nI (by omega) (by omega)) (nI_clamp (by omega)) dX0_nextByte_57 rfl ?_
          refine ew_goto (t := 62) dX0_nextByte_58 rfl ?_
          exact ew_iret rfl dX0_nextByte_62 (Nat.le_refl _) (Nat.le_refl _) ⟨by rw [show hrA T (f + 1) k = k from if_pos c_22, nbC, if_neg c_46], by rw [show hrA T (f + 1) k = k from if_pos c_22], rfl⟩
      · refine ew_aload_n (t := 26) dX0_nextByte_25 rfl rfl rfl ?_
        refine ew_dup (t := 27) dX0_nextByte_26 rfl rfl ?_
        refine ew_get (t := 30) (j := 4) (v := .int (nI k)) fcX0 rfl (Nat.le_of_ble_eq_true rfl) q259 rfl dX0_nextByte_27 rfl ?_
        refine ew_ic1 (t := 31) dX0_nextByte_30 rfl ?_
        refine ew_iadd (t := 32) dX0_nextByte_31 rfl ?_
        refine ew_put (t := 35) (j := 4) (fs' := XOf (upd s 4 ((nI k) + 1))) (h' := (hov h [(1, OB 0 (XOf (upd s 4 ((nI k) + 1))))])) fcX0 rfl (Nat.le_of_ble_eq_true rfl) rfl q259 rfl rfl (Nat.le_of_ble_eq_true rfl) rfl dX0_nextByte_32 (hov_up rfl) rfl ?_
        refine ew_goto (t := 0) dX0_nextByte_35 rfl ?_
        rw [nI_1]
        rw [show hrA T (f + 1) k = hrA T f (k + 1) from if_neg (not_not_intro c_22)]
        exact ih (k + 1) (by omega)
set_option maxHeartbeats 600000 in
theorem ax_next {l : Launch} {G : GW} {h : AH} {n : Nat} {s : Nat → Int32} {T : Nat → Int32} {tp a : Nat} (x12 : h 12 = some (BA 60 T)) (h3 : s 3 = nI tp) (h4 : s 4 = nI a) (ha : a ≤ tp) (htp : tp ≤ 60) : AM l G yX0_nextByte cX0_nextByte 1 (some .int) 0 0 0 [.ref 1] (hov h [(1, XO s)]) n (Qi (nbC T tp (hrN T tp a)) (hov h [(1, XO (upd s 4 (nI (hrN T tp a))))]) n) := by
  refine AM.of (L := [some (.ref 1)]) (by decide) (Nat.le_of_ble_eq_true rfl) rfl ?_
  refine EW.heap (h' := hov h [(1, XO (upd s 4 (nI a)))]) (by rw [upd_same h4]) ?_
  exact lx_nextB x12 h3 htp (tp - a) a (by omega)
set_option maxHeartbeats 600000 in
theorem ax_takes {l : Launch} {G : GW} {h : AH} {n : Nat} {s : Nat → Int32} {T : Nat → Int32} {tp a : Nat} (x12 : h 12 = some (BA 60 T)) (h3 : s 3 = nI tp) (h4 : s 4 = nI a) (ha : a ≤ tp) (htp : tp ≤ 60) (c : Int32) : AM l G yX0_takes cX0_takes 3 (some .boolean) 1 0 0 [.ref 1, .int c] (hov h [(1, OB 0 (XOf s))]) n (Qi (tkI T tp a c) (hov h [(1, XO (upd s 4 (nI (tkA T tp a c))))]) n) := by
  refine AM.of (L := [some (.ref 1), some (.int c), none]) (by decide) (Nat.le_of_ble_eq_true rfl) rfl ?_
  refine ew_aload_n (t := 1) dX0_takes_0 rfl rfl rfl ?_
  refine ew_callV (t := 4) (As := []) (ax_next (h := h) (s := s) (a := a) x12 h3 h4 ha htp) (fcX0).1 rfl (lw_V q368 q370 qs4 q51 q371) rfl naX0_nextByte dX0_takes_1 rfl (Nat.le_of_ble_eq_true rfl) (Nat.le_of_ble_eq_true rfl) (Nat.le_refl _) (Nat.le_refl _) (Nat.le_of_ble_eq_true rfl) rfl (qi ?_)
  refine ew_iload_n (t := 5) dX0_takes_4 rfl rfl rfl ?_
  refine ew_icmp_ne (t := 12) (t2 := 8) dX0_takes_5 rfl rfl (fun c_5 => ?_) (fun c_5 => ?_)
  · refine ew_ic0 (t := 13) dX0_takes_12 rfl ?_
    refine ew_istore_n (t := 14) (L' := [some (.ref 1), some (.int c), some (.int 0)]) dX0_takes_13 rfl (Nat.le_of_ble_eq_true rfl) rfl rfl ?_
    refine ew_aload_n (t := 15) dX0_takes_14 rfl rfl rfl ?_
    refine ew_dup (t := 16) dX0_takes_15 rfl rfl ?_
    refine ew_get (t := 19) (j := 4) (v := .int (nI (hrN T tp a))) fcX0 rfl (Nat.le_of_ble_eq_true rfl) q259 rfl dX0_takes_16 rfl ?_
    refine ew_iload_n (t := 20) dX0_takes_19 rfl rfl rfl ?_
    refine ew_if_eq (t := 27) (t2 := 23) dX0_takes_20 rfl rfl (fun c_20 => ?_) (fun c_20 => ?_)
    · refine ew_ic0 (t := 28) dX0_takes_27 rfl ?_
      refine ew_iadd (t := 29) dX0_takes_28 rfl ?_
      refine ew_put (t := 32) (j := 4) (fs' := XOf (upd s 4 ((nI (hrN T tp a)) + 0))) (h' := (hov h [(1, OB 0 (XOf (upd s 4 ((nI (hrN T tp a)) + 0))))])) fcX0 rfl (Nat.le_of_ble_eq_true rfl) rfl q259 rfl rfl (Nat.le_of_ble_eq_true rfl) rfl dX0_takes_29 (hov_up rfl) rfl ?_
      refine ew_iload_n (t := 33) dX0_takes_32 rfl rfl rfl ?_
      exact ew_zret rfl (by decide) dX0_takes_33 (Nat.le_refl _) (Nat.le_refl _) ⟨by rw [tkI, if_neg c_5], by rw [tkA, if_neg c_5, Int32.add_zero], rfl⟩
    · exact absurd c_20 (by decide)
  · refine ew_ic1 (t := 9) dX0_takes_8 rfl ?_
    refine ew_goto (t := 13) dX0_takes_9 rfl ?_
    refine ew_istore_n (t := 14) (L' := [some (.ref 1), some (.int c), some (.int 1)]) dX0_takes_13 rfl (Nat.le_of_ble_eq_true rfl) rfl rfl ?_
    refine ew_aload_n (t := 15) dX0_takes_14 rfl rfl rfl ?_
    refine ew_dup (t := 16) dX0_takes_15 rfl rfl ?_
    refine ew_get (t := 19) (j := 4) (v := .int (nI (hrN T tp a))) fcX0 rfl (Nat.le_of_ble_eq_true rfl) q259 rfl dX0_takes_16 rfl ?_
    refine ew_iload_n (t := 20) dX0_takes_19 rfl rfl rfl ?_
    refine ew_if_eq (t := 27) (t2 := 23) dX0_takes_20 rfl rfl (fun c_20 => ?_) (fun c_20 => ?_)
    · exact absurd c_20 (by decide)
    · refine ew_ic1 (t := 24) dX0_takes_23 rfl ?_
      refine ew_goto (t := 28) dX0_takes_24 rfl ?_
      refine ew_iadd (t := 29) dX0_takes_28 rfl ?_
      refine ew_put (t := 32) (j := 4) (fs' := XOf (upd s 4 ((nI (hrN T tp a)) + 1))) (h' := (hov h [(1, OB 0 (XOf (upd s 4 ((nI (hrN T tp a)) + 1))))])) fcX0 rfl (Nat.le_of_ble_eq_true rfl) rfl q259 rfl rfl (Nat.le_of_ble_eq_true rfl) rfl dX0_takes_29 (hov_up rfl) rfl ?_
      refine ew_iload_n (t := 33) dX0_takes_32 rfl rfl rfl ?_
      exact ew_zret rfl (by decide) dX0_takes_33 (Nat.le_refl _) (Nat.le_refl _) ⟨by rw [tkI, if_pos c_5], by rw [tkA, if_pos c_5, nI_1], rfl⟩
set_option maxHeartbeats 600000 in
theorem ax_wrong {l : Launch} {G : GW} {h : AH} {n : Nat} {s : Nat → Int32} {p0 : Int32} : AM l G yX0_wrong cX0_wrong 1 (some (.object "SevenRings$Fault")) 0 0 0 [.ref 1] (hov h [(1, OB 0 (XOf s)), (11, OB 2 [.null, .null, .null, .null, .null, .int 0, .int p0])]) n (Qr 11 (hov h [(1, XO s), (11, FO (s 4))]) n) := by
  refine AM.of (L := [some (.ref 1)]) (by decide) (Nat.le_of_ble_eq_true rfl) rfl ?_
  refine ew_aload_n (t := 1) dX0_wrong_0 rfl rfl rfl ?_
  refine ew_get (t := 4) (j := 1) (v := .ref 11) fcX0 rfl (Nat.le_of_ble_eq_true rfl) q256 rfl dX0_wrong_1 rfl ?_
  refine ew_aload_n (t := 5) dX0_wrong_4 rfl rfl rfl ?_
  refine ew_get (t := 8) (j := 4) (v := .int (s 4)) fcX0 rfl (Nat.le_of_ble_eq_true rfl) q259 rfl dX0_wrong_5 rfl ?_
  refine ew_putN (t := 11) (j := 6) (fs' := [.null, .null, .null, .null, .null, .int 0, .int (s 4)]) (h' := (hov h [(1, OB 0 (XOf s)), (11, OB 2 [.null, .null, .null, .null, .null, .int 0, .int (s 4)])])) fcX2 rfl (Nat.le_of_ble_eq_true rfl) rfl q224 rfl rfl (Nat.le_of_ble_eq_true rfl) rfl dX0_wrong_8 (hov_up rfl) rfl ?_
  refine ew_aload_n (t := 12) dX0_wrong_11 rfl rfl rfl ?_
  refine ew_get (t := 15) (j := 1) (v := .ref 11) fcX0 rfl (Nat.le_of_ble_eq_true rfl) q256 rfl dX0_wrong_12 rfl ?_
  exact ew_aret rfl (Or.inl ⟨_, rfl⟩) dX0_wrong_15 (Nat.le_refl _) (Nat.le_refl _) ⟨rfl, rfl, rfl⟩
theorem tkA_le {T : Nat → Int32} {tp a : Nat} {c : Int32} (hc : ¬ c = -1) (ha : a ≤ tp) (htp : tp ≤ 60) : tkA T tp a c ≤ tp := by
  have h1 := (hrN_le (T := T) ha).2
  unfold tkA
  by_cases e : nbC T tp (hrN T tp a) = c
  · rw [if_pos e]
    by_cases e2 : tp ≤ hrN T tp a
    · exfalso
      unfold nbC at e
      rw [if_pos (nI_le e2 (by omega))] at e
      exact hc e.symm
    · omega
  · rw [if_neg e]; exact h1
/-- signs and their numbers -/
def okT (T : Nat → Int32) (tp : Nat) : Prop := ∀ j, j < tp → ∃ z, 32 ≤ z ∧ z < 127 ∧ T j = nI z
theorem nb_cases {T : Nat → Int32} {tp a : Nat} (hT : okT T tp) (htp : tp ≤ 60) (ha : a ≤ tp) : (nbC T tp a = -1 ∧ hrC T tp a = 0 ∧ tp = a) ∨ ∃ z, 32 ≤ z ∧ z < 127 ∧ nbC T tp a = nI z ∧ hrC T tp a = nI z ∧ a < tp := by
  by_cases e : tp ≤ a
  · exact Or.inl ⟨if_pos (nI_le e (by omega)), if_pos (nI_le e (by omega)), by omega⟩
  · obtain ⟨z, h1, h2, h3⟩ := hT a (by omega)
    exact Or.inr ⟨z, h1, h2, (if_neg (nI_ge (by omega) (by omega))).trans h3, (if_neg (nI_ge (by omega) (by omega))).trans h3, by omega⟩
theorem nb_hr : ∀ z, z < 127 → ∀ c, 32 ≤ c → c < 127 → (nI z = nI c ↔ z = c) := fun z hz c _ hc => ⟨fun e => nI_inj (by omega) (by omega) e, fun e => by rw [e]⟩
theorem nb_c {T : Nat → Int32} {tp a : Nat} (hT : okT T tp) (htp : tp ≤ 60) (ha : a ≤ tp) {c : Nat} (hc : c < 127) (hc0 : 0 < c) : nbC T tp a = nI c ↔ hrC T tp a = nI c := by
  rcases nb_cases hT htp ha with ⟨h1, h2, -⟩ | ⟨z, h1, h2, h3, h4, -⟩
  · rw [h1, h2]
    constructor
    · intro e
      have := nI_nn (b := c) (by omega)
      rw [← e] at this
      exact absurd this (by decide)
    · intro e
      have := nI_inj (p := 0) (q := c) (by omega) (by omega) e
      omega
  · rw [h3, h4]
