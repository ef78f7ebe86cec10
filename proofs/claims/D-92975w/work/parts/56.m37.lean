-- Obj fields dict_keys(['cls', 'fun', 'sname', 'refs', 'extra', 'ups'])
/-! the reference: sea -/
set_option maxRecDepth 100000
theorem hrC_end {T : Nat → Int32} {tp a : Nat} (h : tp ≤ a) (ha : a < 2 ^ 31) : hrC T tp a = 0 := if_pos (nI_le h ha)
theorem dgR_le {T : Nat → Int32} {tp a lo : Nat} {wr hi : Int32} (ha : a ≤ tp) (htp : tp ≤ 60) (hlo : lo ≤ 9) : (dgR T tp a wr (nI lo) hi).2.1 ≤ tp := by
  have h1 := (hrN_le (T := T) ha).2
  unfold dgR
  by_cases c1 : wr = 0
  · rw [if_neg (not_not_intro c1)]
    by_cases c2 : b2i (inL (hrC T tp (hrN T tp a)).toInt64 ((48 : Int32) + nI lo).toInt64 ((48 : Int32) + hi).toInt64) = 0
    · rw [if_neg (not_not_intro c2)]; exact h1
    · rw [if_pos c2]
      show hrN T tp a + 1 ≤ tp
      by_cases c3 : tp ≤ hrN T tp a
      · exfalso
        rw [hrC_end c3 (by omega)] at c2
        have h2 := b2i_1.mp c2
        rw [show inL (0 : Int32).toInt64 ((48 : Int32) + nI lo).toInt64 ((48 : Int32) + hi).toInt64 = inI 0 ((48 : Int32) + nI lo) ((48 : Int32) + hi) from inL_I _ _ _, inI_iff] at h2
        have h3 := h2.1
        rw [show (48 : Int32) + nI lo = nI (48 + lo) from nI_add 48 lo] at h3
        have := (nI_leI (a := 48 + lo) (b := 0) (by omega) (by omega)).mp h3
        omega
      · omega
  · rw [if_pos c1]; exact ha
/-- the signs of a row read: place, wrong, how many, what was read -/
def seS (T : Nat → Int32) (tp : Nat) (f : Nat → Int32) : Nat → Nat × Int32 × Int32 × (Nat → Int32)
  | 0 => (0, 0, 0, f)
  | k + 1 => ((dgR T tp (seS T tp f k).1 (seS T tp f k).2.1 0 8).2.1, (dgR T tp (seS T tp f k).1 (seS T tp f k).2.1 0 8).2.2, (seS T tp f k).2.2.1 + (if 8 ≤ (dgR T tp (seS T tp f k).1 (seS T tp f k).2.1 0 8).1 then 0 else 1), upd (seS T tp f k).2.2.2 k (dgR T tp (seS T tp f k).1 (seS T tp f k).2.1 0 8).1)
theorem seS_le {T : Nat → Int32} {tp : Nat} {f : Nat → Int32} (htp : tp ≤ 60) : ∀ k, (seS T tp f k).1 ≤ tp
  | 0 => Nat.zero_le _
  | k + 1 => dgR_le (lo := 0) (seS_le htp k) htp (by omega)

set_option maxHeartbeats 4000000 in
theorem lp_sea1 {l : Launch} {G : GW} {h : AH} {n : Nat} {s : Nat → Int32} {al : Int64} {T f0 : Nat → Int32} {tp q r : Nat} {Q : Option Value → AH → Nat → Prop} (m40 : h 40 = some (IA 60 T)) (h7 : s 7 = nI tp) (htp : tp ≤ 60) (kk : ∀ s' : Nat → Int32, (s' 8 = nI (seS T tp f0 10).1 ∧ s' 9 = (seS T tp f0 10).2.1 ∧ ∀ j, j ≠ 8 → j ≠ 9 → s' j = s j) → EW l G yX4_sea cX4_sea 5 (some .int) 3 0 0 Q 0 0 (hov h [(33, OB 4 (MOf s' al)), (43, IA 10 ((seS T tp f0 10).2.2.2))]) n 86 [some (.ref 33), some (.int (nI q)), some (.int (nI r)), some (.int ((seS T tp f0 10).2.2.1)), some (.int (nI 10))] []) : ∀ (f k : Nat) (s' : Nat → Int32), k + f = 10 → (s' 8 = nI (seS T tp f0 k).1 ∧ s' 9 = (seS T tp f0 k).2.1 ∧ ∀ j, j ≠ 8 → j ≠ 9 → s' j = s j) → EW l G yX4_sea cX4_sea 5 (some .int) 3 0 0 Q 0 0 (hov h [(33, OB 4 (MOf s' al)), (43, IA 10 ((seS T tp f0 k).2.2.2))]) n 39 [some (.ref 33), some (.int (nI q)), some (.int (nI r)), some (.int ((seS T tp f0 k).2.2.1)), some (.int (nI k))] [] := by
  intro f
  induction f with
  | zero =>
    intro k s' hk hs
    refine ew_iload (t := 41) dX4_sea_39 rfl rfl ?_
    refine ew_bipush (t := 43) (v := 10) dX4_sea_41 (by decide) rfl ?_
    refine ew_icmp_ge (t := 86) (t2 := 46) dX4_sea_43 rfl rfl (fun c_43 => ?_) (fun c_43 => ?_)
    · have ek : k = 10 := by omega
      subst ek
      exact kk s' hs
    · exact absurd (show (10 : Int32) ≤ nI k by rw [show k = 10 by omega]; decide) c_43
  | succ f ih =>
    intro k s' hk hs
    refine ew_iload (t := 41) dX4_sea_39 rfl rfl ?_
    refine ew_bipush (t := 43) (v := 10) dX4_sea_41 (by decide) rfl ?_
    refine ew_icmp_ge (t := 86) (t2 := 46) dX4_sea_43 rfl rfl (fun c_43 => ?_) (fun c_43 => ?_)
    · exact absurd c_43 (nI_ge (b := 10) (by omega) (by omega))
    · refine ew_aload_n (t := 47) dX4_sea_46 rfl rfl rfl ?_
      refine ew_get (t := 50) (j := 12) (v := .ref 43) fcX4 rfl (Nat.le_of_ble_eq_true rfl) q1033 rfl dX4_sea_47 rfl ?_
      refine ew_iload (t := 52) dX4_sea_50 rfl rfl ?_
      refine ew_aload_n (t := 53) dX4_sea_52 rfl rfl rfl ?_
      refine ew_ic0 (t := 54) dX4_sea_53 rfl ?_
      refine ew_bipush (t := 56) (v := 8) dX4_sea_54 (by decide) rfl ?_
      have dg := fun (l : Launch) (G : GW) => am_digit (l := l) (G := G) (h := (hov h [(33, MO s' al), (43, IA 10 (seS T tp f0 k).2.2.2)])) (n := n) (s := s') (al := al) (a := (seS T tp f0 k).1) rfl m40 ((hs.2.2 7 (by decide) (by decide)).trans h7) hs.1 (seS_le htp k) htp 0 8
      rw [hs.2.1] at dg
      refine ew_callV (t := 59) (As := [_, _]) (dg l G) (fcX4).1 rfl (lw_V q1188 q1190 qs30 q60 q1191) rfl naX4_digit dX4_sea_56 rfl (Nat.le_of_ble_eq_true rfl) (Nat.le_of_ble_eq_true rfl) (Nat.le_refl _) (Nat.le_refl _) (Nat.le_of_ble_eq_true rfl) rfl (fun r h1 n1 q => ?_)
      obtain ⟨rfl, qn, s2, rfl, e8, e9, e0⟩ := q
      replace qn := qn.symm
      subst qn
      refine EW.heap (h' := hov h [(33, MO s2 al), (43, IA 10 (seS T tp f0 k).2.2.2)]) (hov_mrg rfl) ?_
      refine ew_iast (t := 60) (j := k) (N := 10) (h' := (hov h [(33, OB 4 (MOf s2 al)), (43, IA 10 (upd ((seS T tp f0 k).2.2.2) k ((dgR T tp (seS T tp f0 k).1 (seS T tp f0 k).2.1 0 8).1)))])) rfl (vp_in_nI (by omega) (by omega)) (nI_clamp (by omega)) dX4_sea_59 (hov_up rfl) rfl ?_
      refine ew_iload_n (t := 61) dX4_sea_60 rfl rfl rfl ?_
      refine ew_aload_n (t := 62) dX4_sea_61 rfl rfl rfl ?_
      refine ew_get (t := 65) (j := 12) (v := .ref 43) fcX4 rfl (Nat.le_of_ble_eq_true rfl) q1033 rfl dX4_sea_62 rfl ?_
      refine ew_iload (t := 67) dX4_sea_65 rfl rfl ?_
      refine ew_iald (t := 68) (j := k) (N := 10) rfl (vp_in_nI (by omega) (by omega)) (nI_clamp (by omega)) dX4_sea_67 rfl ?_
      rw [pk_us]
      refine ew_bipush (t := 70) (v := 8) dX4_sea_68 (by decide) rfl ?_
      have J78 : ∀ (j78_0 : Int32), j78_0 = ((if 8 ≤ (dgR T tp (seS T tp f0 k).1 (seS T tp f0 k).2.1 0 8).1 then 0 else 1) : Int32) → EW l G yX4_sea cX4_sea 5 (some .int) 3 0 0 Q 0 0 (hov h [(33, OB 4 (MOf s2 al)), (43, IA 10 (upd ((seS T tp f0 k).2.2.2) k ((dgR T tp (seS T tp f0 k).1 (seS T tp f0 k).2.1 0 8).1)))]) n 78 [some (.ref 33), some (.int (nI q)), some (.int (nI r)), some (.int ((seS T tp f0 k).2.2.1)), some (.int (nI k))] [.int j78_0, .int ((seS T tp f0 k).2.2.1)] := by
        intro j78_0 hj78_0
        refine ew_iadd (t := 79) dX4_sea_78 rfl ?_
        refine ew_istore_n (t := 80) (L' := [some (.ref 33), some (.int (nI q)), some (.int (nI r)), some (.int ((seS T tp f0 k).2.2.1 + j78_0)), some (.int (nI k))]) dX4_sea_79 rfl (Nat.le_of_ble_eq_true rfl) rfl rfl ?_
        refine ew_iinc (t := 83) (x := (nI k)) (v := ((nI k) + 1)) (L' := [some (.ref 33), some (.int (nI q)), some (.int (nI r)), some (.int ((seS T tp f0 k).2.2.1 + j78_0)), some (.int ((nI k) + 1))]) dX4_sea_80 rfl rfl (Nat.le_of_ble_eq_true rfl) rfl rfl ?_
        refine ew_goto (t := 39) dX4_sea_83 rfl ?_
        rw [nI_1]
        subst hj78_0
        exact ih (k + 1) s2 (by omega) ⟨e8, e9, fun j h1 h2 => (e0 j h1 h2).trans (hs.2.2 j h1 h2)⟩
      refine ew_icmp_ge (t := 77) (t2 := 73) dX4_sea_70 rfl rfl (fun c_70 => ?_) (fun c_70 => ?_)
      · refine ew_ic0 (t := 78) dX4_sea_77 rfl ?_
        exact J78 0 (by simp only [if_pos c_70])
      · refine ew_ic1 (t := 74) dX4_sea_73 rfl ?_
        refine ew_goto (t := 78) dX4_sea_74 rfl ?_
        exact J78 1 (by simp only [if_neg c_70])
