/-! the reference: away -/
set_option maxRecDepth 100000
def rtL (q : Nat) : Nat → Nat → Nat
  | r, 0 => r
  | r, f + 1 => if (r + 1) * (r + 1) ≤ q then rtL q (r + 1) f else r
def sqD (x y : Nat) : Nat := (x - y) * (x - y) + (y - x) * (y - x)
def sqN (a b : Nat) : Nat := 4 * (sqD (b / 10) (a / 10) + sqD (b % 10) (a % 10))
/-- twice the way from the eye a to the cell b, cut -/
def awayF (a b : Nat) : Nat := rtL (sqN a b) 0 30
theorem sqD_i : ∀ x, x < 10 → ∀ y, y < 10 → (nI x - nI y) * (nI x - nI y) = nI (sqD x y) := by decide +kernel
theorem sqD_le {x y : Nat} (hx : x < 10) (hy : y < 10) : sqD x y ≤ 81 := by
  have := show ∀ x, x < 10 → ∀ y, y < 10 → sqD x y ≤ 81 by decide +kernel
  exact this x hx y hy
theorem sqN_le {a b : Nat} (ha : a < 100) (hb : b < 100) : sqN a b ≤ 648 := by
  have h1 := sqD_le (x := b / 10) (y := a / 10) (by omega) (by omega)
  have h2 := sqD_le (x := b % 10) (y := a % 10) (by omega) (by omega)
  unfold sqN
  omega
theorem nI_d10 {a : Nat} (h : a < 2 ^ 31) : nI a / 10 = nI (a / 10) := pk_div h (by decide) (by decide)
theorem nI_r10 {a : Nat} (h : a < 2 ^ 31) : nI a - nI a / 10 * 10 = nI (a % 10) := pk_rem (d := 10) h (by decide) (by decide)
theorem sqN_i {a b : Nat} (ha : a < 100) (hb : b < 100) : 4 * ((nI b / 10 - nI a / 10) * (nI b / 10 - nI a / 10) + ((nI b - nI b / 10 * 10) - (nI a - nI a / 10 * 10)) * ((nI b - nI b / 10 * 10) - (nI a - nI a / 10 * 10))) = nI (sqN a b) := by
  rw [nI_r10 (a := b) (by omega), nI_r10 (a := a) (by omega), nI_d10 (a := b) (by omega), nI_d10 (a := a) (by omega), sqD_i _ (by omega) _ (by omega), sqD_i _ (by omega) _ (by omega), nI_add]
  exact pk_mul 4 _
theorem rt_step {q r f : Nat} (h : (r + 1) * (r + 1) ≤ q) : rtL q r (f + 1) = rtL q (r + 1) f := by
  show (if (r + 1) * (r + 1) ≤ q then _ else _) = _
  rw [if_pos h]
theorem rt_stop {q r f : Nat} (h : ¬ (r + 1) * (r + 1) ≤ q) : rtL q r f = r := by
  cases f with
  | zero => rfl
  | succ f =>
    show (if (r + 1) * (r + 1) ≤ q then _ else _) = _
    rw [if_neg h]
set_option maxHeartbeats 4000000 in
theorem lp_away {l : Launch} {G : GW} {h : AH} {n : Nat} {o0 o1 o2 o3 : Option Value} {R : Int32} {q : Nat} (hq : q ≤ 648) : ∀ (f r : Nat), r + f = 30 → R = nI (rtL q r f) → EW l G yX4_away cX4_away 6 (some .int) 0 0 0 (Qi R h n) 0 0 h n 44 [o0, o1, o2, o3, some (.int (nI q)), some (.int (nI r))] [] := by
  intro f
  induction f with
  | zero =>
    intro r hr hR
    have hr2 : (r + 1) * (r + 1) ≤ 961 := Nat.mul_le_mul (by omega : r + 1 ≤ 31) (by omega : r + 1 ≤ 31)
    have e1 : (nI r + 1) * (nI r + 1) = nI ((r + 1) * (r + 1)) := by rw [nI_1, pk_mul]
    refine ew_iload (t := 46) dX4_away_44 rfl rfl ?_
    refine ew_ic1 (t := 47) dX4_away_46 rfl ?_
    refine ew_iadd (t := 48) dX4_away_47 rfl ?_
    refine ew_iload (t := 50) dX4_away_48 rfl rfl ?_
    refine ew_ic1 (t := 51) dX4_away_50 rfl ?_
    refine ew_iadd (t := 52) dX4_away_51 rfl ?_
    refine ew_imul (t := 53) dX4_away_52 rfl ?_
    refine ew_iload (t := 55) dX4_away_53 rfl rfl ?_
    refine ew_icmp_gt (t := 64) (t2 := 58) dX4_away_55 rfl rfl (fun c_55 => ?_) (fun c_55 => ?_)
    · refine ew_iload (t := 66) dX4_away_64 rfl rfl ?_
      exact ew_iret rfl dX4_away_66 (Nat.le_refl _) (Nat.le_refl _) ⟨congrArg (fun z => some (Value.int z)) (by rw [hR, rt_stop (fun z => by rw [e1] at c_55; exact absurd (nI_le z (by omega)) (by simpa [Int32.not_le] using c_55))]), rfl, rfl⟩
    · refine ew_iinc (t := 61) (x := (nI r)) (v := ((nI r) + 1)) (L' := [o0, o1, o2, o3, some (.int (nI q)), some (.int ((nI r) + 1))]) dX4_away_58 rfl rfl (Nat.le_of_ble_eq_true rfl) rfl rfl ?_
      refine ew_goto (t := 44) dX4_away_61 rfl ?_
      rw [e1] at c_55
      have hle : (r + 1) * (r + 1) ≤ q := by
        rcases Nat.lt_or_ge q ((r + 1) * (r + 1)) with z | z
        · exact absurd (nI_lt z (by omega)) c_55
        · exact z
      have h30 : r = 30 := by omega
      subst h30
      exact absurd hle (by omega)
  | succ f ih =>
    intro r hr hR
    have hr2 : (r + 1) * (r + 1) ≤ 961 := Nat.mul_le_mul (by omega : r + 1 ≤ 31) (by omega : r + 1 ≤ 31)
    have e1 : (nI r + 1) * (nI r + 1) = nI ((r + 1) * (r + 1)) := by rw [nI_1, pk_mul]
    refine ew_iload (t := 46) dX4_away_44 rfl rfl ?_
    refine ew_ic1 (t := 47) dX4_away_46 rfl ?_
    refine ew_iadd (t := 48) dX4_away_47 rfl ?_
    refine ew_iload (t := 50) dX4_away_48 rfl rfl ?_
    refine ew_ic1 (t := 51) dX4_away_50 rfl ?_
    refine ew_iadd (t := 52) dX4_away_51 rfl ?_
    refine ew_imul (t := 53) dX4_away_52 rfl ?_
    refine ew_iload (t := 55) dX4_away_53 rfl rfl ?_
    refine ew_icmp_gt (t := 64) (t2 := 58) dX4_away_55 rfl rfl (fun c_55 => ?_) (fun c_55 => ?_)
    · refine ew_iload (t := 66) dX4_away_64 rfl rfl ?_
      exact ew_iret rfl dX4_away_66 (Nat.le_refl _) (Nat.le_refl _) ⟨congrArg (fun z => some (Value.int z)) (by rw [hR, rt_stop (fun z => by rw [e1] at c_55; exact absurd (nI_le z (by omega)) (by simpa [Int32.not_le] using c_55))]), rfl, rfl⟩
    · refine ew_iinc (t := 61) (x := (nI r)) (v := ((nI r) + 1)) (L' := [o0, o1, o2, o3, some (.int (nI q)), some (.int ((nI r) + 1))]) dX4_away_58 rfl rfl (Nat.le_of_ble_eq_true rfl) rfl rfl ?_
      refine ew_goto (t := 44) dX4_away_61 rfl ?_
      rw [e1] at c_55
      have hle : (r + 1) * (r + 1) ≤ q := by
        rcases Nat.lt_or_ge q ((r + 1) * (r + 1)) with z | z
        · exact absurd (nI_lt z (by omega)) c_55
        · exact z
      rw [nI_1]
      exact ih (r + 1) (by omega) (by rw [hR, rt_step hle])
set_option maxHeartbeats 4000000 in
theorem am_away {l : Launch} {G : GW} {h : AH} {n : Nat} {s : Nat → Int32} {al : Int64} {F : Nat → Int32} (m33 : h 33 = some (MO s al)) (m34 : h 34 = some (IA 8 F)) {a b : Nat} (hF : F 0 = nI a) (ha : a < 100) (hb : b < 100) : AM l G yX4_away cX4_away 6 (some .int) 0 0 0 [.ref 33, .int (nI b)] h n (Qi (nI (awayF a b)) h n) := by
  refine AM.of (L := [some (.ref 33), some (.int (nI b)), none, none, none, none]) (by decide) (Nat.le_of_ble_eq_true rfl) rfl ?_
  refine ew_iload_n (t := 1) dX4_away_0 rfl rfl rfl ?_
  refine ew_bipush (t := 3) (v := 10) dX4_away_1 (by decide) rfl ?_
  refine ew_idiv (t := 4) dX4_away_3 (by decide) rfl ?_
  refine ew_aload_n (t := 5) dX4_away_4 rfl rfl rfl ?_
  refine ew_get (t := 8) (j := 0) (v := .ref 34) fcX4 m33 (Nat.le_of_ble_eq_true rfl) q1021 rfl dX4_away_5 rfl ?_
  refine ew_ic0 (t := 9) dX4_away_8 rfl ?_
  refine ew_iald (t := 10) (j := 0) (N := 8) m34 (vpI (by decide)) (by decide) dX4_away_9 rfl ?_
  refine ew_bipush (t := 12) (v := 10) dX4_away_10 (by decide) rfl ?_
  refine ew_idiv (t := 13) dX4_away_12 (by decide) rfl ?_
  refine ew_isub (t := 14) dX4_away_13 rfl ?_
  refine ew_istore_n (t := 15) (L' := [some (.ref 33), some (.int (nI b)), some (.int (((nI b) / 10) - ((F 0) / 10))), none, none, none]) dX4_away_14 rfl (Nat.le_of_ble_eq_true rfl) rfl rfl ?_
  refine ew_iload_n (t := 16) dX4_away_15 rfl rfl rfl ?_
  refine ew_bipush (t := 18) (v := 10) dX4_away_16 (by decide) rfl ?_
  refine ew_irem (t := 19) dX4_away_18 (by decide) rfl ?_
  refine ew_aload_n (t := 20) dX4_away_19 rfl rfl rfl ?_
  refine ew_get (t := 23) (j := 0) (v := .ref 34) fcX4 m33 (Nat.le_of_ble_eq_true rfl) q1021 rfl dX4_away_20 rfl ?_
  refine ew_ic0 (t := 24) dX4_away_23 rfl ?_
  refine ew_iald (t := 25) (j := 0) (N := 8) m34 (vpI (by decide)) (by decide) dX4_away_24 rfl ?_
  refine ew_bipush (t := 27) (v := 10) dX4_away_25 (by decide) rfl ?_
  refine ew_irem (t := 28) dX4_away_27 (by decide) rfl ?_
  refine ew_isub (t := 29) dX4_away_28 rfl ?_
  refine ew_istore_n (t := 30) (L' := [some (.ref 33), some (.int (nI b)), some (.int (((nI b) / 10) - ((F 0) / 10))), some (.int (((nI b) - (nI b) / 10 * 10) - ((F 0) - (F 0) / 10 * 10))), none, none]) dX4_away_29 rfl (Nat.le_of_ble_eq_true rfl) rfl rfl ?_
  refine ew_ic4 (t := 31) dX4_away_30 rfl ?_
  refine ew_iload_n (t := 32) dX4_away_31 rfl rfl rfl ?_
  refine ew_iload_n (t := 33) dX4_away_32 rfl rfl rfl ?_
  refine ew_imul (t := 34) dX4_away_33 rfl ?_
  refine ew_iload_n (t := 35) dX4_away_34 rfl rfl rfl ?_
  refine ew_iload_n (t := 36) dX4_away_35 rfl rfl rfl ?_
  refine ew_imul (t := 37) dX4_away_36 rfl ?_
  refine ew_iadd (t := 38) dX4_away_37 rfl ?_
  refine ew_imul (t := 39) dX4_away_38 rfl ?_
  refine ew_istore (t := 41) (L' := [some (.ref 33), some (.int (nI b)), some (.int (((nI b) / 10) - ((F 0) / 10))), some (.int (((nI b) - (nI b) / 10 * 10) - ((F 0) - (F 0) / 10 * 10))), some (.int (4 * (((((nI b) / 10) - ((F 0) / 10)) * (((nI b) / 10) - ((F 0) / 10))) + ((((nI b) - (nI b) / 10 * 10) - ((F 0) - (F 0) / 10 * 10)) * (((nI b) - (nI b) / 10 * 10) - ((F 0) - (F 0) / 10 * 10)))))), none]) dX4_away_39 (Nat.le_of_ble_eq_true rfl) rfl rfl ?_
  refine ew_ic0 (t := 42) dX4_away_41 rfl ?_
  refine ew_istore (t := 44) (L' := [some (.ref 33), some (.int (nI b)), some (.int (((nI b) / 10) - ((F 0) / 10))), some (.int (((nI b) - (nI b) / 10 * 10) - ((F 0) - (F 0) / 10 * 10))), some (.int (4 * (((((nI b) / 10) - ((F 0) / 10)) * (((nI b) / 10) - ((F 0) / 10))) + ((((nI b) - (nI b) / 10 * 10) - ((F 0) - (F 0) / 10 * 10)) * (((nI b) - (nI b) / 10 * 10) - ((F 0) - (F 0) / 10 * 10)))))), some (.int 0)]) dX4_away_42 (Nat.le_of_ble_eq_true rfl) rfl rfl ?_
  rw [hF, sqN_i ha hb]
  exact lp_away (sqN_le ha hb) 30 0 rfl rfl
