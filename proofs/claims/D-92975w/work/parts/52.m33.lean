-- Obj fields dict_keys(['cls', 'fun', 'sname', 'refs', 'extra', 'ups'])
/-! the reference: here, digit -/
set_option maxRecDepth 100000
def hrA (T : Nat → Int32) : Nat → Nat → Nat
  | 0, a => a
  | f + 1, a => if ¬ T a = 32 then a else hrA T f (a + 1)
theorem hrA_le {T : Nat → Int32} : ∀ f a, a ≤ hrA T f a ∧ hrA T f a ≤ a + f
  | 0, a => ⟨Nat.le_refl _, Nat.le_refl _⟩
  | f + 1, a => by
    rw [hrA]
    by_cases c : T a = 32
    · rw [if_neg (not_not_intro c)]; have := hrA_le (T := T) f (a + 1); omega
    · rw [if_pos c]; omega
/-- where the next sign lies, and what it is -/
def hrN (T : Nat → Int32) (tp a : Nat) : Nat := hrA T (tp - a) a
def hrC (T : Nat → Int32) (tp a : Nat) : Int32 := if nI tp ≤ nI a then 0 else T a

set_option maxHeartbeats 4000000 in
theorem lp_here {l : Launch} {G : GW} {h : AH} {n : Nat} {s : Nat → Int32} {al : Int64} {T : Nat → Int32} {tp : Nat} (m40 : h 40 = some (IA 60 T)) (h7 : s 7 = nI tp) (htp : tp ≤ 60) : ∀ (f k : Nat), k + f = tp → EW l G yX4_here cX4_here 1 (some .int) 0 0 0 (Qi (hrC T tp (hrA T f k)) (hov h [(33, MO (upd s 8 (nI (hrA T f k))) al)]) n) 0 0 (hov h [(33, OB 4 (MOf (upd s 8 (nI k)) al))]) n 0 [some (.ref 33)] [] := by
  intro f
  induction f with
  | zero =>
    intro k  hk
    refine ew_aload_n (t := 1) dX4_here_0 rfl rfl rfl ?_
    refine ew_get (t := 4) (j := 8) (v := .int (nI k)) fcX4 rfl (Nat.le_of_ble_eq_true rfl) q1029 rfl dX4_here_1 rfl ?_
    refine ew_aload_n (t := 5) dX4_here_4 rfl rfl rfl ?_
    refine ew_get (t := 8) (j := 7) (v := .int (s 7)) fcX4 rfl (Nat.le_of_ble_eq_true rfl) q1028 rfl dX4_here_5 rfl ?_
    rw [h7]
    refine ew_icmp_ge (t := 38) (t2 := 11) dX4_here_8 rfl rfl (fun c_8 => ?_) (fun c_8 => ?_)
    · refine ew_aload_n (t := 39) dX4_here_38 rfl rfl rfl ?_
      refine ew_get (t := 42) (j := 8) (v := .int (nI k)) fcX4 rfl (Nat.le_of_ble_eq_true rfl) q1029 rfl dX4_here_39 rfl ?_
      refine ew_aload_n (t := 43) dX4_here_42 rfl rfl rfl ?_
      refine ew_get (t := 46) (j := 7) (v := .int (s 7)) fcX4 rfl (Nat.le_of_ble_eq_true rfl) q1028 rfl dX4_here_43 rfl ?_
      rw [h7]
      refine ew_icmp_ge (t := 61) (t2 := 49) dX4_here_46 rfl rfl (fun c_46 => ?_) (fun c_46 => ?_)
      · refine ew_ic0 (t := 62) dX4_here_61 rfl ?_
        exact ew_iret rfl dX4_here_62 (Nat.le_refl _) (Nat.le_refl _) ⟨by rw [hrA, hrC, if_pos c_8], rfl, rfl⟩
      · exact absurd c_8 c_46
    · exact absurd c_8 (by rw [show k = tp by omega]; exact not_not_intro (Int32.le_refl _))
  | succ f ih =>
    intro k  hk
    refine ew_aload_n (t := 1) dX4_here_0 rfl rfl rfl ?_
    refine ew_get (t := 4) (j := 8) (v := .int (nI k)) fcX4 rfl (Nat.le_of_ble_eq_true rfl) q1029 rfl dX4_here_1 rfl ?_
    refine ew_aload_n (t := 5) dX4_here_4 rfl rfl rfl ?_
    refine ew_get (t := 8) (j := 7) (v := .int (s 7)) fcX4 rfl (Nat.le_of_ble_eq_true rfl) q1028 rfl dX4_here_5 rfl ?_
    rw [h7]
    refine ew_icmp_ge (t := 38) (t2 := 11) dX4_here_8 rfl rfl (fun c_8 => ?_) (fun c_8 => ?_)
    · exact absurd c_8 (nI_ge (by omega) (by omega))
    · refine ew_aload_n (t := 12) dX4_here_11 rfl rfl rfl ?_
      refine ew_get (t := 15) (j := 6) (v := .ref 40) fcX4 rfl (Nat.le_of_ble_eq_true rfl) q1027 rfl dX4_here_12 rfl ?_
      refine ew_aload_n (t := 16) dX4_here_15 rfl rfl rfl ?_
      refine ew_get (t := 19) (j := 8) (v := .int (nI k)) fcX4 rfl (Nat.le_of_ble_eq_true rfl) q1029 rfl dX4_here_16 rfl ?_
      refine ew_iald (t := 20) (j := k) (N := 60) m40 (vp_in_nI (by omega) (by omega)) (nI_clamp (by omega)) dX4_here_19 rfl ?_
      refine ew_bipush (t := 22) (v := 32) dX4_here_20 (by decide) rfl ?_
      refine ew_icmp_ne (t := 38) (t2 := 25) dX4_here_22 rfl rfl (fun c_22 => ?_) (fun c_22 => ?_)
      · refine ew_aload_n (t := 39) dX4_here_38 rfl rfl rfl ?_
        refine ew_get (t := 42) (j := 8) (v := .int (nI k)) fcX4 rfl (Nat.le_of_ble_eq_true rfl) q1029 rfl dX4_here_39 rfl ?_
        refine ew_aload_n (t := 43) dX4_here_42 rfl rfl rfl ?_
        refine ew_get (t := 46) (j := 7) (v := .int (s 7)) fcX4 rfl (Nat.le_of_ble_eq_true rfl) q1028 rfl dX4_here_43 rfl ?_
        rw [h7]
        refine ew_icmp_ge (t := 61) (t2 := 49) dX4_here_46 rfl rfl (fun c_46 => ?_) (fun c_46 => ?_)
        · exact absurd c_46 c_8
        · refine ew_aload_n (t := 50) dX4_here_49 rfl rfl rfl ?_
          refine ew_get (t := 53) (j := 6) (v := .ref 40) fcX4 rfl (Nat.le_of_ble_eq_true rfl) q1027 rfl dX4_here_50 rfl ?_
          refine ew_aload_n (t := 54) dX4_here_53 rfl rfl rfl ?_
          refine ew_get (t := 57) (j := 8) (v := .int (nI k)) fcX4 rfl (Nat.le_of_ble_eq_true rfl) q1029 rfl dX4_here_54 rfl ?_
          refine ew_iald (t := 58) (j := k) (N := 60) m40 (vp_in_nI (by omega) (by omega)) (nI_clamp (by omega)) dX4_here_57 rfl ?_
          refine ew_goto (t := 62) dX4_here_58 rfl ?_
          exact ew_iret rfl dX4_here_62 (Nat.le_refl _) (Nat.le_refl _) ⟨by rw [show hrA T (f + 1) k = k from if_pos c_22, hrC, if_neg c_46], by rw [show hrA T (f + 1) k = k from if_pos c_22], rfl⟩
      · refine ew_aload_n (t := 26) dX4_here_25 rfl rfl rfl ?_
        refine ew_dup (t := 27) dX4_here_26 rfl rfl ?_
        refine ew_get (t := 30) (j := 8) (v := .int (nI k)) fcX4 rfl (Nat.le_of_ble_eq_true rfl) q1029 rfl dX4_here_27 rfl ?_
        refine ew_ic1 (t := 31) dX4_here_30 rfl ?_
        refine ew_iadd (t := 32) dX4_here_31 rfl ?_
        refine ew_put (t := 35) (j := 8) (fs' := MOf (upd s 8 ((nI k) + 1)) al) (h' := (hov h [(33, OB 4 (MOf (upd s 8 ((nI k) + 1)) al))])) fcX4 rfl (Nat.le_of_ble_eq_true rfl) rfl q1029 rfl rfl (Nat.le_of_ble_eq_true rfl) rfl dX4_here_32 (hov_up rfl) rfl ?_
        refine ew_goto (t := 0) dX4_here_35 rfl ?_
        rw [nI_1]
        rw [show hrA T (f + 1) k = hrA T f (k + 1) from if_neg (not_not_intro c_22)]
        exact ih (k + 1) (by omega)
theorem upd_same {s : Nat → Int32} {k : Nat} {x : Int32} (e : s k = x) : upd s k x = s := by
  funext j
  by_cases h : j = k
  · rw [h, pk_us, e]
  · rw [pk_un h]
theorem hrN_le {T : Nat → Int32} {tp a : Nat} (h : a ≤ tp) : a ≤ hrN T tp a ∧ hrN T tp a ≤ tp := by
  have := hrA_le (T := T) (tp - a) a
  unfold hrN
  omega
theorem hrA_stop {T : Nat → Int32} : ∀ f a, hrA T (a + f - hrA T f a) (hrA T f a) = hrA T f a
  | 0, a => by
    show hrA T (a + 0 - a) a = a
    rw [show a + 0 - a = 0 by omega]; rfl
  | f + 1, a => by
    by_cases c : T a = 32
    · have e : hrA T (f + 1) a = hrA T f (a + 1) := if_neg (not_not_intro c)
      rw [e, show a + (f + 1) = a + 1 + f by omega]
      exact hrA_stop f (a + 1)
    · have e : hrA T (f + 1) a = a := if_pos c
      rw [e, show a + (f + 1) - a = f + 1 by omega, e]
theorem hrN_idem {T : Nat → Int32} {tp a : Nat} (h : a ≤ tp) : hrN T tp (hrN T tp a) = hrN T tp a := by
  have := hrA_stop (T := T) (tp - a) a
  rw [show a + (tp - a) = tp by omega] at this
  exact this
set_option maxHeartbeats 4000000 in
theorem am_here {l : Launch} {G : GW} {h : AH} {n : Nat} {s : Nat → Int32} {al : Int64} {T : Nat → Int32} {tp a : Nat} (m40 : h 40 = some (IA 60 T)) (h7 : s 7 = nI tp) (h8 : s 8 = nI a) (ha : a ≤ tp) (htp : tp ≤ 60) : AM l G yX4_here cX4_here 1 (some .int) 0 0 0 [.ref 33] (hov h [(33, MO s al)]) n (Qi (hrC T tp (hrN T tp a)) (hov h [(33, MO (upd s 8 (nI (hrN T tp a))) al)]) n) := by
  refine AM.of (L := [some (.ref 33)]) (by decide) (Nat.le_of_ble_eq_true rfl) rfl ?_
  refine EW.heap (h' := hov h [(33, MO (upd s 8 (nI a)) al)]) (by rw [upd_same h8]) ?_
  exact lp_here m40 h7 htp (tp - a) a (by omega)
