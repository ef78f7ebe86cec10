-- Obj fields dict_keys(['cls', 'fun', 'sname', 'refs', 'extra', 'ups'])
/-! the component: isAssumption, isDragged, next -/
set_option maxRecDepth 100000
theorem asm_8 : ∀ j, j < 13 → (b2i (inI (nI j) 8 11) = 0 → ((nI j < 8) ∨ nI j = 12)) ∧ (¬ b2i (inI (nI j) 8 11) = 0 → (¬ (nI j < 8) ∧ ¬ nI j = 12)) := by decide +kernel
theorem asm_in {c : Int32} (h : ¬ b2i (inI c 0 12) = 0) : ∃ j, j < 13 ∧ c = nI j := by
  obtain ⟨j, -, h2, h3⟩ := inI_nat (c := c) (lo := 0) (hi := 12) (by omega) (by omega) (b2i_1.mp h)
  exact ⟨j, by omega, h3⟩
theorem asm_0 {sp c : Int32} (h : b2i (inI c 0 12) = 0) : asmI sp c = 0 := by
  unfold asmI
  rw [show inL c.toInt64 0 12 = inI c 0 12 from inL_I c 0 12, if_pos h]
theorem asm_1 {sp c : Int32} (h : ¬ b2i (inI c 0 12) = 0) (h2 : b2i (inI c 8 11) = 0) : asmI sp c = 1 := by
  obtain ⟨j, hj, rfl⟩ := asm_in h
  unfold asmI
  rw [show inL (nI j).toInt64 0 12 = inI (nI j) 0 12 from inL_I (nI j) 0 12, if_neg h]
  rcases (asm_8 j hj).1 h2 with q | q
  · rw [if_pos q]
  · by_cases q2 : nI j < 8
    · rw [if_pos q2]
    · rw [if_neg q2, if_pos q]
theorem asm_2 {sp c : Int32} (h : ¬ b2i (inI c 0 12) = 0) (h2 : ¬ b2i (inI c 8 11) = 0) : asmI sp c = if sp ≤ c - 8 then 0 else 1 := by
  obtain ⟨j, hj, rfl⟩ := asm_in h
  unfold asmI
  rw [show inL (nI j).toInt64 0 12 = inI (nI j) 0 12 from inL_I (nI j) 0 12, if_neg h, if_neg ((asm_8 j hj).2 h2).1, if_neg ((asm_8 j hj).2 h2).2]
/-- a drag lies at c -/
def dgI (D : Nat → Int32) (c : Int32) : Nat → Int32
  | 0 => 0
  | k + 1 => dgI D c k ||| (if ¬ D k = c then 0 else 1)
theorem dgI_01 {D : Nat → Int32} {c : Int32} : ∀ k, dgI D c k = 0 ∨ dgI D c k = 1
  | 0 => Or.inl rfl
  | k + 1 => by
    show (dgI D c k ||| (if ¬ D k = c then 0 else 1)) = 0 ∨ (dgI D c k ||| (if ¬ D k = c then 0 else 1)) = 1
    rcases dgI_01 (D := D) (c := c) k with e | e <;> rw [e] <;> split <;> decide
theorem dgI_nar {D : Nat → Int32} {c : Int32} (k : Nat) : narrow .boolean (.int (dgI D c k)) = .int (dgI D c k) := by
  rcases dgI_01 (D := D) (c := c) k with e | e <;> rw [e] <;> decide
theorem nxD_x {D : Nat → Int32} {c v : Int32} : ∀ k, nxD D c v k = 0 ↔ (v = 0 ∨ ¬ dgI D c k = 0)
  | 0 => by
    show v = 0 ↔ (v = 0 ∨ ¬ (0 : Int32) = 0)
    exact ⟨Or.inl, fun q => q.elim id (fun z => absurd rfl z)⟩
  | k + 1 => by
    show (if nxD D c v k = 0 then 0 else if D k = c then 0 else 1) = 0 ↔ (v = 0 ∨ ¬ (dgI D c k ||| (if ¬ D k = c then 0 else 1)) = 0)
    have ih := nxD_x (D := D) (c := c) (v := v) k
    rcases dgI_01 (D := D) (c := c) k with e | e
    · rw [e] at ih ⊢
      by_cases q : D k = c
      · rw [if_neg (not_not_intro q), if_pos q]
        exact ⟨fun _ => Or.inr (by decide), fun _ => by split <;> rfl⟩
      · rw [if_pos q, if_neg q]
        by_cases z : nxD D c v k = 0
        · rw [if_pos z]; exact ⟨fun _ => (ih.mp z).imp id (fun y => absurd rfl y), fun _ => rfl⟩
        · rw [if_neg z]; exact ⟨fun y => absurd y (by decide), fun y => absurd (ih.mpr (y.imp id (fun x => absurd (by decide) x))) z⟩
    · have z : nxD D c v k = 0 := ih.mpr (Or.inr (by rw [e]; decide))
      rw [if_pos z, e]
      exact ⟨fun _ => Or.inr (by split <;> decide), fun _ => rfl⟩
theorem p01_0 {x : Int64} : p01 x = 0 ↔ x ≤ 0 := by
  unfold p01
  split
  · exact ⟨fun _ => by assumption, fun _ => rfl⟩
  · exact ⟨fun y => absurd y (by decide), fun y => absurd y (by assumption)⟩
set_option maxHeartbeats 600000 in
theorem ax_isAssumption {l : Launch} {G : GW} {h : AH} {n : Nat} {s : Nat → Int32} {F : Nat → Nat → Int32} {np nd n2 : Nat} (x1 : h 1 = some (XO s)) (xr : XR F np nd h n2) (c : Int32) : AM l G yX0_isAssumption cX0_isAssumption 2 (some .boolean) 2 0 0 [.ref 1, .int c] h n (Qi (asmI (nI np) c) h n) := by
  refine AM.of (L := [some (.ref 1), some (.int c)]) (by decide) (Nat.le_of_ble_eq_true rfl) rfl ?_
  have xt := xr.2.1
  have hnp := xr.2.2.1.1
  have hnd := xr.2.2.2.1
  obtain ⟨mo, e, xc, hsz⟩ := xr.2.2.1.size
  obtain ⟨md, ed, xd, hsd⟩ := xr.2.2.2.size
  refine ew_iload_n (t := 1) dX0_isAssumption_0 rfl rfl rfl ?_
  refine ew_ic0 (t := 2) dX0_isAssumption_1 rfl ?_
  refine ew_bipush (t := 4) (v := 12) dX0_isAssumption_2 (by decide) rfl ?_
  refine ew_callS (t := 7) (As := [_, _, _]) (ax_isIn _ _ _) (lw_S q330 q331 q51 q332) naX0_isIn dX0_isAssumption_4 rfl (Nat.le_of_ble_eq_true rfl) (Nat.le_of_ble_eq_true rfl) (Nat.le_refl _) (Nat.le_refl _) (Nat.le_of_ble_eq_true rfl) rfl (qi ?_)
  refine ew_if_eq (t := 44) (t2 := 10) dX0_isAssumption_7 rfl rfl (fun c_7 => ?_) (fun c_7 => ?_)
  · refine ew_ic0 (t := 45) dX0_isAssumption_44 rfl ?_
    exact ew_zret rfl (by decide) dX0_isAssumption_45 (Nat.le_refl _) (Nat.le_refl _) ⟨by rw [show asmI (nI np) c = _ from asm_0 c_7], rfl, rfl⟩
  · refine ew_iload_n (t := 11) dX0_isAssumption_10 rfl rfl rfl ?_
    refine ew_bipush (t := 13) (v := 8) dX0_isAssumption_11 (by decide) rfl ?_
    refine ew_bipush (t := 15) (v := 11) dX0_isAssumption_13 (by decide) rfl ?_
    refine ew_callS (t := 18) (As := [_, _, _]) (ax_isIn _ _ _) (lw_S q330 q331 q51 q332) naX0_isIn dX0_isAssumption_15 rfl (Nat.le_of_ble_eq_true rfl) (Nat.le_of_ble_eq_true rfl) (Nat.le_refl _) (Nat.le_refl _) (Nat.le_of_ble_eq_true rfl) rfl (qi ?_)
    refine ew_if_eq (t := 40) (t2 := 21) dX0_isAssumption_18 rfl rfl (fun c_18 => ?_) (fun c_18 => ?_)
    · refine ew_ic1 (t := 41) dX0_isAssumption_40 rfl ?_
      refine ew_goto (t := 45) dX0_isAssumption_41 rfl ?_
      exact ew_zret rfl (by decide) dX0_isAssumption_45 (Nat.le_refl _) (Nat.le_refl _) ⟨by rw [show asmI (nI np) c = _ from asm_1 c_7 c_18], rfl, rfl⟩
    · refine ew_iload_n (t := 22) dX0_isAssumption_21 rfl rfl rfl ?_
      refine ew_bipush (t := 24) (v := 8) dX0_isAssumption_22 (by decide) rfl ?_
      refine ew_isub (t := 25) dX0_isAssumption_24 rfl ?_
      refine ew_aload_n (t := 26) dX0_isAssumption_25 rfl rfl rfl ?_
      refine ew_get (t := 29) (j := 0) (v := .ref 2) fcX0 x1 (Nat.le_of_ble_eq_true rfl) q255 rfl dX0_isAssumption_26 rfl ?_
      refine ew_getN (t := 32) (j := 6) (v := .ref 9) fcX1 xt.1 (Nat.le_of_ble_eq_true rfl) q140 rfl dX0_isAssumption_29 rfl ?_
      refine ew_callF (t := 37) (As := []) (hsz l G n) (fcJ2).1 xc (lw_F q557 q561 q563 q55 q565) fw_size naI_J2_size dX0_isAssumption_32 rfl (Nat.le_of_ble_eq_true rfl) (Nat.le_of_ble_eq_true rfl) (Nat.le_refl _) (Nat.le_refl _) (Nat.le_of_ble_eq_true rfl) rfl (qi ?_)
      refine ew_icmp_ge (t := 44) (t2 := 40) dX0_isAssumption_37 rfl rfl (fun c_37 => ?_) (fun c_37 => ?_)
      · refine ew_ic0 (t := 45) dX0_isAssumption_44 rfl ?_
        exact ew_zret rfl (by decide) dX0_isAssumption_45 (Nat.le_refl _) (Nat.le_refl _) ⟨by rw [show asmI (nI np) c = _ from (asm_2 c_7 c_18).trans (if_pos c_37)], rfl, rfl⟩
      · refine ew_ic1 (t := 41) dX0_isAssumption_40 rfl ?_
        refine ew_goto (t := 45) dX0_isAssumption_41 rfl ?_
        exact ew_zret rfl (by decide) dX0_isAssumption_45 (Nat.le_refl _) (Nat.le_refl _) ⟨by rw [show asmI (nI np) c = _ from (asm_2 c_7 c_18).trans (if_neg c_37)], rfl, rfl⟩
set_option maxHeartbeats 600000 in
theorem lx_isDragged {l : Launch} {G : GW} {h : AH} {n : Nat} {s : Nat → Int32} {F : Nat → Nat → Int32} {np nd n2 : Nat} (x1 : h 1 = some (XO s)) (xr : XR F np nd h n2) (c : Int32) {Q : Option Value → AH → Nat → Prop} (hq : Q (some (.int (dgI (F 53) c nd))) h n) : ∀ (f k : Nat), k + f = nd → EW l G yX0_isDragged cX0_isDragged 4 (some .boolean) 4 0 0 Q 0 0 h n 4 [some (.ref 1), some (.int c), some (.int (dgI (F 53) c k)), some (.int (nI k))] [] := by
  intro f
  induction f with
  | zero =>
    intro k  hk
    have xt := xr.2.1
    have hnp := xr.2.2.1.1
    have hnd := xr.2.2.2.1
    obtain ⟨mo, e, xc, hsz⟩ := xr.2.2.1.size
    obtain ⟨md, ed, xd, hsd⟩ := xr.2.2.2.size
    refine ew_iload_n (t := 5) dX0_isDragged_4 rfl rfl rfl ?_
    refine ew_aload_n (t := 6) dX0_isDragged_5 rfl rfl rfl ?_
    refine ew_get (t := 9) (j := 0) (v := .ref 2) fcX0 x1 (Nat.le_of_ble_eq_true rfl) q255 rfl dX0_isDragged_6 rfl ?_
    refine ew_getN (t := 12) (j := 7) (v := .ref 10) fcX1 xt.1 (Nat.le_of_ble_eq_true rfl) q142 rfl dX0_isDragged_9 rfl ?_
    refine ew_callF (t := 17) (As := []) (hsd l G n) (fcJ2).1 xd (lw_F q557 q561 q563 q55 q565) fw_size naI_J2_size dX0_isDragged_12 rfl (Nat.le_of_ble_eq_true rfl) (Nat.le_of_ble_eq_true rfl) (Nat.le_refl _) (Nat.le_refl _) (Nat.le_of_ble_eq_true rfl) rfl (qi ?_)
    refine ew_icmp_ge (t := 57) (t2 := 20) dX0_isDragged_17 rfl rfl (fun c_17 => ?_) (fun c_17 => ?_)
    · refine ew_iload_n (t := 58) dX0_isDragged_57 rfl rfl rfl ?_
      exact ew_zret rfl (dgI_nar k) dX0_isDragged_58 (Nat.le_refl _) (Nat.le_refl _) (by rw [show k = nd by omega]; exact hq)
    · exact absurd (show nI nd ≤ nI k by rw [show k = nd by omega]; exact Int32.le_refl _) c_17
  | succ f ih =>
    intro k  hk
    have xt := xr.2.1
    have hnp := xr.2.2.1.1
    have hnd := xr.2.2.2.1
    obtain ⟨mo, e, xc, hsz⟩ := xr.2.2.1.size
    obtain ⟨md, ed, xd, hsd⟩ := xr.2.2.2.size
    refine ew_iload_n (t := 5) dX0_isDragged_4 rfl rfl rfl ?_
    refine ew_aload_n (t := 6) dX0_isDragged_5 rfl rfl rfl ?_
    refine ew_get (t := 9) (j := 0) (v := .ref 2) fcX0 x1 (Nat.le_of_ble_eq_true rfl) q255 rfl dX0_isDragged_6 rfl ?_
    refine ew_getN (t := 12) (j := 7) (v := .ref 10) fcX1 xt.1 (Nat.le_of_ble_eq_true rfl) q142 rfl dX0_isDragged_9 rfl ?_
    refine ew_callF (t := 17) (As := []) (hsd l G n) (fcJ2).1 xd (lw_F q557 q561 q563 q55 q565) fw_size naI_J2_size dX0_isDragged_12 rfl (Nat.le_of_ble_eq_true rfl) (Nat.le_of_ble_eq_true rfl) (Nat.le_refl _) (Nat.le_refl _) (Nat.le_of_ble_eq_true rfl) rfl (qi ?_)
    refine ew_icmp_ge (t := 57) (t2 := 20) dX0_isDragged_17 rfl rfl (fun c_17 => ?_) (fun c_17 => ?_)
    · exact absurd c_17 (nI_ge (by omega) (by omega))
    · refine ew_iload_n (t := 21) dX0_isDragged_20 rfl rfl rfl ?_
      refine ew_aload_n (t := 22) dX0_isDragged_21 rfl rfl rfl ?_
      refine ew_get (t := 25) (j := 0) (v := .ref 2) fcX0 x1 (Nat.le_of_ble_eq_true rfl) q255 rfl dX0_isDragged_22 rfl ?_
      refine ew_getN (t := 28) (j := 7) (v := .ref 10) fcX1 xt.1 (Nat.le_of_ble_eq_true rfl) q142 rfl dX0_isDragged_25 rfl ?_
      refine ew_iload_n (t := 29) dX0_isDragged_28 rfl rfl rfl ?_
      obtain ⟨mo2, e2, p, xc2, hp1, hp2, xp, hget⟩ := xr.2.2.2.get (k := k) (by omega)
      refine ew_callF (t := 34) (As := [_]) (hget l G n) (fcJ2).1 xd (lw_F q672 q675 q677 q55 q679) fw_get naI_J2_get dX0_isDragged_29 rfl (Nat.le_of_ble_eq_true rfl) (Nat.le_of_ble_eq_true rfl) (Nat.le_refl _) (Nat.le_refl _) (Nat.le_of_ble_eq_true rfl) rfl (qr ?_)
      refine ew_castO (t := 37) (fcX10).1 xp q702 dX0_isDragged_34 rfl ?_
      refine ew_getN (t := 40) (j := 0) (v := .int (F 53 k)) fcX10 xp (Nat.le_of_ble_eq_true rfl) q709 rfl dX0_isDragged_37 rfl ?_
      refine ew_iload_n (t := 41) dX0_isDragged_40 rfl rfl rfl ?_
      have J49 : ∀ (j49_0 : Int32), j49_0 = ((if ¬ (F 53 k) = c then 0 else 1) : Int32) → EW l G yX0_isDragged cX0_isDragged 4 (some .boolean) 4 0 0 Q 0 0 h n 49 [some (.ref 1), some (.int c), some (.int (dgI (F 53) c k)), some (.int (nI k))] [.int j49_0, .int (dgI (F 53) c k)] := by
        intro j49_0 hj49_0
        refine ew_ior (t := 50) dX0_isDragged_49 rfl ?_
        refine ew_istore_n (t := 51) (L' := [some (.ref 1), some (.int c), some (.int ((dgI (F 53) c k) ||| j49_0)), some (.int (nI k))]) dX0_isDragged_50 rfl (Nat.le_of_ble_eq_true rfl) rfl rfl ?_
        refine ew_iinc (t := 54) (x := (nI k)) (v := ((nI k) + 1)) (L' := [some (.ref 1), some (.int c), some (.int ((dgI (F 53) c k) ||| j49_0)), some (.int ((nI k) + 1))]) dX0_isDragged_51 rfl rfl (Nat.le_of_ble_eq_true rfl) rfl rfl ?_
        refine ew_goto (t := 4) dX0_isDragged_54 rfl ?_
        rw [nI_1]
        rw [show dgI (F 53) c k ||| j49_0 = dgI (F 53) c (k + 1) from by rw [hj49_0]; rfl]
        exact ih (k + 1) (by omega)
      refine ew_icmp_ne (t := 48) (t2 := 44) dX0_isDragged_41 rfl rfl (fun c_41 => ?_) (fun c_41 => ?_)
      · refine ew_ic0 (t := 49) dX0_isDragged_48 rfl ?_
        exact J49 0 (by simp only [if_pos c_41])
      · refine ew_ic1 (t := 45) dX0_isDragged_44 rfl ?_
        refine ew_goto (t := 49) dX0_isDragged_45 rfl ?_
        exact J49 1 (by simp only [if_neg (not_not_intro c_41)])
set_option maxHeartbeats 600000 in
theorem ax_isDragged {l : Launch} {G : GW} {h : AH} {n : Nat} {s : Nat → Int32} {F : Nat → Nat → Int32} {np nd n2 : Nat} (x1 : h 1 = some (XO s)) (xr : XR F np nd h n2) (c : Int32) : AM l G yX0_isDragged cX0_isDragged 4 (some .boolean) 4 0 0 [.ref 1, .int c] h n (Qi (dgI (F 53) c nd) h n) := by
  refine AM.of (L := [some (.ref 1), some (.int c), none, none]) (by decide) (Nat.le_of_ble_eq_true rfl) rfl ?_
  refine ew_ic0 (t := 1) dX0_isDragged_0 rfl ?_
  refine ew_istore_n (t := 2) (L' := [some (.ref 1), some (.int c), some (.int 0), none]) dX0_isDragged_1 rfl (Nat.le_of_ble_eq_true rfl) rfl rfl ?_
  refine ew_ic0 (t := 3) dX0_isDragged_2 rfl ?_
  refine ew_istore_n (t := 4) (L' := [some (.ref 1), some (.int c), some (.int 0), some (.int 0)]) dX0_isDragged_3 rfl (Nat.le_of_ble_eq_true rfl) rfl rfl ?_
  exact lx_isDragged x1 xr c ⟨rfl, rfl, rfl⟩ nd 0 (by omega)
set_option maxHeartbeats 600000 in
theorem lx_next {l : Launch} {G : GW} {h : AH} {n : Nat} {s : Nat → Int32} {FL : Nat → Int64} {SN : Nat → Nat} {Q : Option Value → AH → Nat → Prop} (x1 : h 1 = some (XO s)) (x17 : h 17 = some (JA 100 FL)) (hFL : ∀ j, j < 100 → FL j = lN (SN j)) {F : Nat → Nat → Int32} {np nd n2 : Nat} (xr : XR F np nd h n2) (hq : Q (some (.int (nxB SN (F 53) (F 39) nd 100))) h n) : ∀ (f k : Nat), k + f = 100 → EW l G yX0_next cX0_next 3 (some .int) 34 2 101 Q 2 101 h n 15 [some (.ref 1), some (.int (nxB SN (F 53) (F 39) nd k)), some (.int (nI k))] [] := by
  intro f
  induction f with
  | zero =>
    intro k  hk
    have xt := xr.2.1
    refine ew_iload_n (t := 16) dX0_next_15 rfl rfl rfl ?_
    refine ew_bipush (t := 18) (v := 100) dX0_next_16 (by decide) rfl ?_
    refine ew_icmp_ge (t := 90) (t2 := 21) dX0_next_18 rfl rfl (fun c_18 => ?_) (fun c_18 => ?_)
    · refine ew_iload_n (t := 91) dX0_next_90 rfl rfl rfl ?_
      exact ew_iret rfl dX0_next_91 (by decide) (by decide) (by rw [show k = 100 by omega]; exact hq)
    · exact absurd (show (100 : Int32) ≤ nI k by rw [show k = 100 by omega]; decide) c_18
  | succ f ih =>
    intro k  hk
    have xt := xr.2.1
    refine ew_iload_n (t := 16) dX0_next_15 rfl rfl rfl ?_
    refine ew_bipush (t := 18) (v := 100) dX0_next_16 (by decide) rfl ?_
    refine ew_icmp_ge (t := 90) (t2 := 21) dX0_next_18 rfl rfl (fun c_18 => ?_) (fun c_18 => ?_)
    · exact absurd c_18 (nI_ge (b := 100) (by omega) (by omega))
    · refine ew_aload_n (t := 22) dX0_next_21 rfl rfl rfl ?_
      refine ew_get (t := 25) (j := 16) (v := .ref 17) fcX0 x1 (Nat.le_of_ble_eq_true rfl) q278 rfl dX0_next_22 rfl ?_
      refine ew_iload_n (t := 26) dX0_next_25 rfl rfl rfl ?_
      refine ew_lald (t := 27) (j := k) (N := 100) x17 (vp_in_nI (by omega) (by omega)) (nI_clamp (by omega)) dX0_next_26 rfl ?_
      rw [hFL k (by omega)]
      refine ew_lc0 (t := 28) dX0_next_27 rfl ?_
      refine ew_lcmp_le (t1 := 29) (t := 84) (t2 := 32) dX0_next_28 rfl dX0_next_29 rfl rfl (fun c_28 => ?_) (fun c_28 => ?_)
      · refine ew_iinc (t := 87) (x := (nI k)) (v := ((nI k) + 1)) (L' := [some (.ref 1), some (.int (nxB SN (F 53) (F 39) nd k)), some (.int ((nI k) + 1))]) dX0_next_84 rfl rfl (Nat.le_of_ble_eq_true rfl) rfl rfl ?_
        refine ew_goto (t := 15) dX0_next_87 rfl ?_
        rw [nI_1]
        rw [show (nxB SN (F 53) (F 39) nd k) = nxB SN (F 53) (F 39) nd (k + 1) from (if_pos ((nxD_x nd).mpr (Or.inl (p01_0.mpr c_28)))).symm]
        exact ih (k + 1) (by omega)
      · refine ew_aload_n (t := 33) dX0_next_32 rfl rfl rfl ?_
        refine ew_iload_n (t := 34) dX0_next_33 rfl rfl rfl ?_
        refine ew_callV (t := 37) (As := [_]) (ax_isDragged x1 xr (nI k)) (fcX0).1 x1 (lw_V q790 q792 qs25 q51 q793) rfl naX0_isDragged dX0_next_34 rfl (Nat.le_of_ble_eq_true rfl) (Nat.le_of_ble_eq_true rfl) (by omega) (by omega) (Nat.le_of_ble_eq_true rfl) rfl (qi ?_)
        refine ew_if_ne (t := 84) (t2 := 40) dX0_next_37 rfl rfl (fun c_37 => ?_) (fun c_37 => ?_)
        · refine ew_iinc (t := 87) (x := (nI k)) (v := ((nI k) + 1)) (L' := [some (.ref 1), some (.int (nxB SN (F 53) (F 39) nd k)), some (.int ((nI k) + 1))]) dX0_next_84 rfl rfl (Nat.le_of_ble_eq_true rfl) rfl rfl ?_
          refine ew_goto (t := 15) dX0_next_87 rfl ?_
          rw [nI_1]
          rw [show (nxB SN (F 53) (F 39) nd k) = nxB SN (F 53) (F 39) nd (k + 1) from (if_pos ((nxD_x nd).mpr (Or.inr c_37))).symm]
          exact ih (k + 1) (by omega)
        · refine ew_iload_n (t := 41) dX0_next_40 rfl rfl rfl ?_
          refine ew_if_lt (t := 82) (t2 := 44) dX0_next_41 rfl rfl (fun c_41 => ?_) (fun c_41 => ?_)
          · refine ew_iload_n (t := 83) dX0_next_82 rfl rfl rfl ?_
            refine ew_istore_n (t := 84) (L' := [some (.ref 1), some (.int (nI k)), some (.int (nI k))]) dX0_next_83 rfl (Nat.le_of_ble_eq_true rfl) rfl rfl ?_
            refine ew_iinc (t := 87) (x := (nI k)) (v := ((nI k) + 1)) (L' := [some (.ref 1), some (.int (nI k)), some (.int ((nI k) + 1))]) dX0_next_84 rfl rfl (Nat.le_of_ble_eq_true rfl) rfl rfl ?_
            refine ew_goto (t := 15) dX0_next_87 rfl ?_
            rw [nI_1]
            rw [show nI k = nxB SN (F 53) (F 39) nd (k + 1) from ((if_neg (show ¬ nxD (F 53) (nI k) (p01 (lN (SN k))) nd = 0 from fun q => ((nxD_x nd).mp q).elim (fun q => c_28 (p01_0.mp q)) (fun q => q c_37))).trans (if_pos c_41)).symm]
            exact ih (k + 1) (by omega)
          · refine ew_aload_n (t := 45) dX0_next_44 rfl rfl rfl ?_
            refine ew_get (t := 48) (j := 16) (v := .ref 17) fcX0 x1 (Nat.le_of_ble_eq_true rfl) q278 rfl dX0_next_45 rfl ?_
            refine ew_iload_n (t := 49) dX0_next_48 rfl rfl rfl ?_
            refine ew_lald (t := 50) (j := k) (N := 100) x17 (vp_in_nI (by omega) (by omega)) (nI_clamp (by omega)) dX0_next_49 rfl ?_
            rw [hFL k (by omega)]
            refine ew_aload_n (t := 51) dX0_next_50 rfl rfl rfl ?_
            refine ew_get (t := 54) (j := 0) (v := .ref 2) fcX0 x1 (Nat.le_of_ble_eq_true rfl) q255 rfl dX0_next_51 rfl ?_
            refine ew_getN (t := 57) (j := 5) (v := .ref 8) fcX1 xt.1 (Nat.le_of_ble_eq_true rfl) q138 rfl dX0_next_54 rfl ?_
            refine ew_iload_n (t := 58) dX0_next_57 rfl rfl rfl ?_
            refine ew_bald (t := 59) (j := (nxB SN (F 53) (F 39) nd k).toNatClampNeg) (N := 100) xt.2.2.2.2.2.2 (nxB_in (by omega) c_41).1 rfl dX0_next_58 rfl ?_
            refine ew_i2l (t := 60) dX0_next_59 rfl ?_
            refine ew_lmul (t := 61) dX0_next_60 rfl ?_
            refine ew_aload_n (t := 62) dX0_next_61 rfl rfl rfl ?_
            refine ew_get (t := 65) (j := 16) (v := .ref 17) fcX0 x1 (Nat.le_of_ble_eq_true rfl) q278 rfl dX0_next_62 rfl ?_
            refine ew_iload_n (t := 66) dX0_next_65 rfl rfl rfl ?_
            refine ew_lald (t := 67) (j := (nxB SN (F 53) (F 39) nd k).toNatClampNeg) (N := 100) x17 (nxB_in (by omega) c_41).1 rfl dX0_next_66 rfl ?_
            rw [hFL (nxB SN (F 53) (F 39) nd k).toNatClampNeg (nxB_in (by omega) c_41).2]
            refine ew_aload_n (t := 68) dX0_next_67 rfl rfl rfl ?_
            refine ew_get (t := 71) (j := 0) (v := .ref 2) fcX0 x1 (Nat.le_of_ble_eq_true rfl) q255 rfl dX0_next_68 rfl ?_
            refine ew_getN (t := 74) (j := 5) (v := .ref 8) fcX1 xt.1 (Nat.le_of_ble_eq_true rfl) q138 rfl dX0_next_71 rfl ?_
            refine ew_iload_n (t := 75) dX0_next_74 rfl rfl rfl ?_
            refine ew_bald (t := 76) (j := k) (N := 100) xt.2.2.2.2.2.2 (vp_in_nI (by omega) (by omega)) (nI_clamp (by omega)) dX0_next_75 rfl ?_
            refine ew_i2l (t := 77) dX0_next_76 rfl ?_
            refine ew_lmul (t := 78) dX0_next_77 rfl ?_
            refine ew_lcmp_le (t1 := 79) (t := 84) (t2 := 82) dX0_next_78 rfl dX0_next_79 rfl rfl (fun c_78 => ?_) (fun c_78 => ?_)
            · refine ew_iinc (t := 87) (x := (nI k)) (v := ((nI k) + 1)) (L' := [some (.ref 1), some (.int (nxB SN (F 53) (F 39) nd k)), some (.int ((nI k) + 1))]) dX0_next_84 rfl rfl (Nat.le_of_ble_eq_true rfl) rfl rfl ?_
              refine ew_goto (t := 15) dX0_next_87 rfl ?_
              rw [nI_1]
              rw [show (nxB SN (F 53) (F 39) nd k) = nxB SN (F 53) (F 39) nd (k + 1) from ((if_neg (show ¬ nxD (F 53) (nI k) (p01 (lN (SN k))) nd = 0 from fun q => ((nxD_x nd).mp q).elim (fun q => c_28 (p01_0.mp q)) (fun q => q c_37))).trans ((if_neg c_41).trans (if_pos c_78))).symm]
              exact ih (k + 1) (by omega)
            · refine ew_iload_n (t := 83) dX0_next_82 rfl rfl rfl ?_
              refine ew_istore_n (t := 84) (L' := [some (.ref 1), some (.int (nI k)), some (.int (nI k))]) dX0_next_83 rfl (Nat.le_of_ble_eq_true rfl) rfl rfl ?_
              refine ew_iinc (t := 87) (x := (nI k)) (v := ((nI k) + 1)) (L' := [some (.ref 1), some (.int (nI k)), some (.int ((nI k) + 1))]) dX0_next_84 rfl rfl (Nat.le_of_ble_eq_true rfl) rfl rfl ?_
              refine ew_goto (t := 15) dX0_next_87 rfl ?_
              rw [nI_1]
              rw [show nI k = nxB SN (F 53) (F 39) nd (k + 1) from ((if_neg (show ¬ nxD (F 53) (nI k) (p01 (lN (SN k))) nd = 0 from fun q => ((nxD_x nd).mp q).elim (fun q => c_28 (p01_0.mp q)) (fun q => q c_37))).trans ((if_neg c_41).trans (if_neg c_78))).symm]
              exact ih (k + 1) (by omega)
set_option maxHeartbeats 600000 in
theorem xc_next {l : Launch} {G : GW} {h : AH} {n : Nat} {s ce : Nat → Int32} {F : Nat → Nat → Int32} {a b H T S U g wd np nd : Nat} (hn : 63 ≤ n) (x1 : h 1 = some (XO s)) (x16 : h 16 = some (IA 7 ce)) (sc : scX h) (xr : XR F np nd h n) (wk : WKc F a b H T S U g wd) (ok : OKP F np nd) {EN : Nat → Nat} (hE : ∀ j, j < 100 → waysS H g (allW F 0 0 0 a b H T S U) (fun _ => 0) j = lN (EN j) ∧ EN j < 2 ^ 30) : AM l G yX0_next cX0_next 3 (some .int) 34 2 101 [.ref 1] h n (XQ s h n (.int (nxB (sN F (fun _ => false) false EN np nd) (F 53) (F 39) nd 100))) := by
  refine AM.of (L := [some (.ref 1), none, none]) (by decide) (Nat.le_of_ble_eq_true rfl) rfl ?_
  have xt := xr.2.1
  have hnp := xr.2.2.1.1
  have hnd := xr.2.2.2.1
  have hSN : ∀ j, j < 100 → (sN F (fun _ => false) false EN np nd) j < 2 ^ 50 := fun j hj => sN_lt hnp hnd (hE j hj).2
  have hAN : (foS (sN F (fun _ => false) false EN np nd) 100) < 2 ^ 60 := Nat.lt_of_le_of_lt (foS_lt 100 hSN) (by decide)
  refine ew_aload_n (t := 1) dX0_next_0 rfl rfl rfl ?_
  refine ew_icm1 (t := 2) dX0_next_1 rfl ?_
  refine ew_aload_n (t := 3) dX0_next_2 rfl rfl rfl ?_
  refine ew_get (t := 6) (j := 16) (v := .ref 17) fcX0 x1 (Nat.le_of_ble_eq_true rfl) q278 rfl dX0_next_3 rfl ?_
  refine ew_callV (t := 9) (As := [_, _]) (xf_findOdds hn x1 x16 sc xr wk ok FLG_0 (lp := fun _ => false) (ld := false) (fun j hj => lp_0 j (by omega)) ld_0 hE (tc := 17) (Or.inl rfl)) (fcX0).1 x1 (lw_V q734 q736 qs22 q51 q737) rfl naX0_findOdds dX0_next_6 rfl (Nat.le_of_ble_eq_true rfl) (Nat.le_of_ble_eq_true rfl) (by omega) (by omega) (Nat.le_of_ble_eq_true rfl) rfl (fun rr h9 n9 qq => ?_)
  obtain ⟨rfl, qn, qf, ⟨f9, t9, hf9⟩, -, qs, ⟨s9, x9, kp9⟩, xr9⟩ := qq
  subst qn
  refine ew_pop2 (t := 10) dX0_next_9 rfl rfl ?_
  refine ew_bipush (t := 12) (v := (-4)) dX0_next_10 (by decide) rfl ?_
  refine ew_istore_n (t := 13) (L' := [some (.ref 1), some (.int (-4)), none]) dX0_next_12 rfl (Nat.le_of_ble_eq_true rfl) rfl rfl ?_
  refine ew_ic0 (t := 14) dX0_next_13 rfl ?_
  refine ew_istore_n (t := 15) (L' := [some (.ref 1), some (.int (-4)), some (.int 0)]) dX0_next_14 rfl (Nat.le_of_ble_eq_true rfl) rfl rfl ?_
  exact lx_next (SN := (sN F (fun _ => false) false EN np nd)) x9 t9 hf9 xr9 ⟨rfl, by omega, qf, qs, s9, x9, kp9⟩ 100 0 (by omega)
