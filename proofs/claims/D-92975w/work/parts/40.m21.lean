/-! the reference: isAssumption, next, should -/
set_option maxRecDepth 100000
def asmI (sp c : Int32) : Int32 := if b2i (inL c.toInt64 0 12) = 0 then 0 else if c < 8 then 1 else if c = 12 then 1 else if sp ≤ c - 8 then 0 else 1
/-- the cell q is open: a sum lies there and no drag -/
def nxD (DC : Nat → Int32) (q v : Int32) : Nat → Int32
  | 0 => v
  | k + 1 => if nxD DC q v k = 0 then 0 else if DC k = q then 0 else 1
def p01 (x : Int64) : Int32 := if x ≤ 0 then 0 else 1
def nxB (SN : Nat → Nat) (DC D : Nat → Int32) (nd : Nat) : Nat → Int32
  | 0 => -4
  | k + 1 => if nxD DC (nI k) (p01 (lN (SN k))) nd = 0 then nxB SN DC D nd k else if nxB SN DC D nd k < 0 then nI k else if lN (SN k) * (D (nxB SN DC D nd k).toNatClampNeg).toInt64 ≤ lN (SN (nxB SN DC D nd k).toNatClampNeg) * (D k).toInt64 then nxB SN DC D nd k else nI k
theorem or_ite {c : Prop} [Decidable c] {a b x y : Int32} (h1 : a = x ∨ a = y) (h2 : b = x ∨ b = y) : (if c then a else b) = x ∨ (if c then a else b) = y := by
  by_cases hc : c
  · rw [if_pos hc]; exact h1
  · rw [if_neg hc]; exact h2
theorem nxB_or {SN : Nat → Nat} {DC D : Nat → Int32} {nd : Nat} : ∀ k, k ≤ 100 → nxB SN DC D nd k = -4 ∨ ∃ b, b < k ∧ nxB SN DC D nd k = nI b := by
  intro k
  induction k with
  | zero => intro _; exact Or.inl rfl
  | succ k ih =>
    intro hk
    have hu : ∀ x, x = nxB SN DC D nd k ∨ x = nI k → x = -4 ∨ ∃ b, b < k + 1 ∧ x = nI b := by
      rintro x (e | e)
      · rcases ih (by omega) with i | ⟨b, hb, i⟩
        · exact Or.inl (e.trans i)
        · exact Or.inr ⟨b, by omega, e.trans i⟩
      · exact Or.inr ⟨k, by omega, e⟩
    apply hu
    exact or_ite (Or.inl rfl) (or_ite (Or.inr rfl) (or_ite (Or.inl rfl) (Or.inr rfl)))
theorem nxB_in {SN : Nat → Nat} {DC D : Nat → Int32} {nd k : Nat} (hk : k ≤ 100) (c : ¬ nxB SN DC D nd k < 0) : vp_in (nxB SN DC D nd k) 100 ∧ (nxB SN DC D nd k).toNatClampNeg < 100 := by
  rcases nxB_or (SN := SN) (DC := DC) (D := D) (nd := nd) k hk with e | ⟨b, hb, e⟩
  · rw [e] at c; exact absurd (by decide) c
  · rw [e]; exact ⟨vp_in_nI (by omega) (by omega), by rw [nI_clamp (by omega)]; omega⟩

set_option maxHeartbeats 4000000 in
theorem am_isAssumption {l : Launch} {G : GW} {h : AH} {n : Nat} {s : Nat → Int32} {al : Int64} (m33 : h 33 = some (MO s al)) (c : Int32) : AM l G yX4_isAssumption cX4_isAssumption 2 (some .boolean) 1 0 0 [.ref 33, .int c] h n (Qi (asmI (s 25) c) h n) := by
  refine AM.of (L := [some (.ref 33), some (.int c)]) (by decide) (Nat.le_of_ble_eq_true rfl) rfl ?_
  refine ew_iload_n (t := 1) dX4_isAssumption_0 rfl rfl rfl ?_
  refine ew_i2l (t := 2) dX4_isAssumption_1 rfl ?_
  refine ew_lc0 (t := 3) dX4_isAssumption_2 rfl ?_
  refine ew_ldc2 (t := 6) (v := 12) dX4_isAssumption_3 q1335 rfl ?_
  refine ew_callS (t := 9) (As := [_, _, _]) (am_in _ _ _) (lw_S q1153 q1154 q60 q1155) naX4_in dX4_isAssumption_6 rfl (Nat.le_of_ble_eq_true rfl) (Nat.le_of_ble_eq_true rfl) (Nat.le_refl _) (Nat.le_refl _) (Nat.le_of_ble_eq_true rfl) rfl (qi ?_)
  refine ew_if_eq (t := 39) (t2 := 12) dX4_isAssumption_9 rfl rfl (fun c_9 => ?_) (fun c_9 => ?_)
  · refine ew_ic0 (t := 40) dX4_isAssumption_39 rfl ?_
    exact ew_zret rfl (by decide) dX4_isAssumption_40 (Nat.le_refl _) (Nat.le_refl _) ⟨by unfold asmI; rw [if_pos c_9], rfl, rfl⟩
  · refine ew_iload_n (t := 13) dX4_isAssumption_12 rfl rfl rfl ?_
    refine ew_bipush (t := 15) (v := 8) dX4_isAssumption_13 (by decide) rfl ?_
    refine ew_icmp_lt (t := 35) (t2 := 18) dX4_isAssumption_15 rfl rfl (fun c_15 => ?_) (fun c_15 => ?_)
    · refine ew_ic1 (t := 36) dX4_isAssumption_35 rfl ?_
      refine ew_goto (t := 40) dX4_isAssumption_36 rfl ?_
      exact ew_zret rfl (by decide) dX4_isAssumption_40 (Nat.le_refl _) (Nat.le_refl _) ⟨by unfold asmI; rw [if_neg c_9, if_pos c_15], rfl, rfl⟩
    · refine ew_iload_n (t := 19) dX4_isAssumption_18 rfl rfl rfl ?_
      refine ew_bipush (t := 21) (v := 12) dX4_isAssumption_19 (by decide) rfl ?_
      refine ew_icmp_eq (t := 35) (t2 := 24) dX4_isAssumption_21 rfl rfl (fun c_21 => ?_) (fun c_21 => ?_)
      · refine ew_ic1 (t := 36) dX4_isAssumption_35 rfl ?_
        refine ew_goto (t := 40) dX4_isAssumption_36 rfl ?_
        exact ew_zret rfl (by decide) dX4_isAssumption_40 (Nat.le_refl _) (Nat.le_refl _) ⟨by unfold asmI; rw [if_neg c_9, if_neg c_15, if_pos c_21], rfl, rfl⟩
      · refine ew_iload_n (t := 25) dX4_isAssumption_24 rfl rfl rfl ?_
        refine ew_bipush (t := 27) (v := 8) dX4_isAssumption_25 (by decide) rfl ?_
        refine ew_isub (t := 28) dX4_isAssumption_27 rfl ?_
        refine ew_aload_n (t := 29) dX4_isAssumption_28 rfl rfl rfl ?_
        refine ew_get (t := 32) (j := 25) (v := .int (s 25)) fcX4 m33 (Nat.le_of_ble_eq_true rfl) q1046 rfl dX4_isAssumption_29 rfl ?_
        refine ew_icmp_ge (t := 39) (t2 := 35) dX4_isAssumption_32 rfl rfl (fun c_32 => ?_) (fun c_32 => ?_)
        · refine ew_ic0 (t := 40) dX4_isAssumption_39 rfl ?_
          exact ew_zret rfl (by decide) dX4_isAssumption_40 (Nat.le_refl _) (Nat.le_refl _) ⟨by unfold asmI; rw [if_neg c_9, if_neg c_15, if_neg c_21, if_pos c_32], rfl, rfl⟩
        · refine ew_ic1 (t := 36) dX4_isAssumption_35 rfl ?_
          refine ew_goto (t := 40) dX4_isAssumption_36 rfl ?_
          exact ew_zret rfl (by decide) dX4_isAssumption_40 (Nat.le_refl _) (Nat.le_refl _) ⟨by unfold asmI; rw [if_neg c_9, if_neg c_15, if_neg c_21, if_neg c_32], rfl, rfl⟩
set_option maxHeartbeats 4000000 in
theorem lp_nextD {l : Launch} {G : GW} {h : AH} {n : Nat} {s : Nat → Int32} {al : Int64} {F : Nat → Nat → Int32} {FL : Nat → Int64} {Q : Option Value → AH → Nat → Prop} (mc : MC s al F FL h) {nd : Nat} (h27 : s 27 = nI nd) (hnd : nd ≤ 4) {q : Nat} {best v : Int32} (kk : EW l G yX4_next cX4_next 5 (some .int) 6 0 0 Q 0 0 h n 71 [some (.ref 33), some (.int best), some (.int (nI q)), some (.int (nxD (F 53) (nI q) v nd)), some (.int (nI nd))] []) : ∀ (f k : Nat), k + f = nd → EW l G yX4_next cX4_next 5 (some .int) 6 0 0 Q 0 0 h n 35 [some (.ref 33), some (.int best), some (.int (nI q)), some (.int (nxD (F 53) (nI q) v k)), some (.int (nI k))] [] := by
  intro f
  induction f with
  | zero =>
    intro k  hk
    refine ew_iload (t := 37) dX4_next_35 rfl rfl ?_
    refine ew_aload_n (t := 38) dX4_next_37 rfl rfl rfl ?_
    refine ew_get (t := 41) (j := 27) (v := .int (s 27)) fcX4 mc.1 (Nat.le_of_ble_eq_true rfl) q1048 rfl dX4_next_38 rfl ?_
    rw [h27]
    refine ew_icmp_ge (t := 71) (t2 := 44) dX4_next_41 rfl rfl (fun c_41 => ?_) (fun c_41 => ?_)
    · rw [show k = nd by omega]
      exact kk
    · exact absurd c_41 (by rw [show k = nd by omega]; exact not_not_intro (Int32.le_refl _))
  | succ f ih =>
    intro k  hk
    refine ew_iload (t := 37) dX4_next_35 rfl rfl ?_
    refine ew_aload_n (t := 38) dX4_next_37 rfl rfl rfl ?_
    refine ew_get (t := 41) (j := 27) (v := .int (s 27)) fcX4 mc.1 (Nat.le_of_ble_eq_true rfl) q1048 rfl dX4_next_38 rfl ?_
    rw [h27]
    refine ew_icmp_ge (t := 71) (t2 := 44) dX4_next_41 rfl rfl (fun c_41 => ?_) (fun c_41 => ?_)
    · exact absurd c_41 (nI_ge (by omega) (by omega))
    · refine ew_iload_n (t := 45) dX4_next_44 rfl rfl rfl ?_
      have J64 : ∀ (j64_0 : Int32), j64_0 = ((if (nxD (F 53) (nI q) v k) = 0 then 0 else (if ((F 53) k) = (nI q) then 0 else 1)) : Int32) → EW l G yX4_next cX4_next 5 (some .int) 6 0 0 Q 0 0 h n 64 [some (.ref 33), some (.int best), some (.int (nI q)), some (.int (nxD (F 53) (nI q) v k)), some (.int (nI k))] [.int j64_0] := by
        intro j64_0 hj64_0
        refine ew_istore_n (t := 65) (L' := [some (.ref 33), some (.int best), some (.int (nI q)), some (.int j64_0), some (.int (nI k))]) dX4_next_64 rfl (Nat.le_of_ble_eq_true rfl) rfl rfl ?_
        refine ew_iinc (t := 68) (x := (nI k)) (v := ((nI k) + 1)) (L' := [some (.ref 33), some (.int best), some (.int (nI q)), some (.int j64_0), some (.int ((nI k) + 1))]) dX4_next_65 rfl rfl (Nat.le_of_ble_eq_true rfl) rfl rfl ?_
        refine ew_goto (t := 35) dX4_next_68 rfl ?_
        rw [nI_1]
        rw [show j64_0 = nxD (F 53) (nI q) v (k + 1) from hj64_0]
        exact ih (k + 1) (by omega)
      refine ew_if_eq (t := 63) (t2 := 48) dX4_next_45 rfl rfl (fun c_45 => ?_) (fun c_45 => ?_)
      · refine ew_ic0 (t := 64) dX4_next_63 rfl ?_
        exact J64 0 (by simp only [if_pos c_45])
      · refine ew_aload_n (t := 49) dX4_next_48 rfl rfl rfl ?_
        refine ew_get (t := 52) (j := 28) (v := .ref 53) fcX4 mc.1 (Nat.le_of_ble_eq_true rfl) q1049 rfl dX4_next_49 rfl ?_
        refine ew_iload (t := 54) dX4_next_52 rfl rfl ?_
        refine ew_iald (t := 55) (j := k) (N := 6) (mI mc 53 rfl) (vp_in_nI (by omega) (by omega)) (nI_clamp (by omega)) dX4_next_54 rfl ?_
        refine ew_iload_n (t := 56) dX4_next_55 rfl rfl rfl ?_
        refine ew_icmp_eq (t := 63) (t2 := 59) dX4_next_56 rfl rfl (fun c_56 => ?_) (fun c_56 => ?_)
        · refine ew_ic0 (t := 64) dX4_next_63 rfl ?_
          exact J64 0 (by simp only [if_neg c_45, if_pos c_56])
        · refine ew_ic1 (t := 60) dX4_next_59 rfl ?_
          refine ew_goto (t := 64) dX4_next_60 rfl ?_
          exact J64 1 (by simp only [if_neg c_45, if_neg c_56])
set_option maxHeartbeats 4000000 in
theorem lp_next {l : Launch} {G : GW} {h : AH} {n : Nat} {s : Nat → Int32} {al : Int64} {F : Nat → Nat → Int32} {FL : Nat → Int64} {Q : Option Value → AH → Nat → Prop} (mc : MC s al F FL h) {nd : Nat} (h27 : s 27 = nI nd) (hnd : nd ≤ 4) {SN : Nat → Nat} (hFL : ∀ j, j < 100 → FL j = lN (SN j)) (hq : Q (some (.int (nxB SN (F 53) (F 39) nd 100))) h n) : ∀ (f k : Nat) (o3 o4 : Option Value), k + f = 100 → EW l G yX4_next cX4_next 5 (some .int) 6 0 0 Q 0 0 h n 9 [some (.ref 33), some (.int (nxB SN (F 53) (F 39) nd k)), some (.int (nI k)), o3, o4] [] := by
  intro f
  induction f with
  | zero =>
    intro k o3 o4 hk
    refine ew_iload_n (t := 10) dX4_next_9 rfl rfl rfl ?_
    refine ew_bipush (t := 12) (v := 100) dX4_next_10 (by decide) rfl ?_
    refine ew_icmp_ge (t := 123) (t2 := 15) dX4_next_12 rfl rfl (fun c_12 => ?_) (fun c_12 => ?_)
    · refine ew_iload_n (t := 124) dX4_next_123 rfl rfl rfl ?_
      exact ew_iret rfl dX4_next_124 (Nat.le_refl _) (Nat.le_refl _) (by rw [show k = 100 by omega]; exact hq)
    · exact absurd (show (100 : Int32) ≤ nI k by rw [show k = 100 by omega]; decide) c_12
  | succ f ih =>
    intro k o3 o4 hk
    refine ew_iload_n (t := 10) dX4_next_9 rfl rfl rfl ?_
    refine ew_bipush (t := 12) (v := 100) dX4_next_10 (by decide) rfl ?_
    refine ew_icmp_ge (t := 123) (t2 := 15) dX4_next_12 rfl rfl (fun c_12 => ?_) (fun c_12 => ?_)
    · exact absurd c_12 (nI_ge (b := 100) (by omega) (by omega))
    · refine ew_aload_n (t := 16) dX4_next_15 rfl rfl rfl ?_
      refine ew_get (t := 19) (j := 30) (v := .ref 55) fcX4 mc.1 (Nat.le_of_ble_eq_true rfl) q1051 rfl dX4_next_16 rfl ?_
      refine ew_iload_n (t := 20) dX4_next_19 rfl rfl rfl ?_
      refine ew_lald (t := 21) (j := k) (N := 100) mc.2.1 (vp_in_nI (by omega) (by omega)) (nI_clamp (by omega)) dX4_next_20 rfl ?_
      rw [hFL k (by omega)]
      refine ew_lc0 (t := 22) dX4_next_21 rfl ?_
      have J31 : ∀ (j31_0 : Int32), j31_0 = ((if (lN (SN k)) ≤ 0 then 0 else 1) : Int32) → EW l G yX4_next cX4_next 5 (some .int) 6 0 0 Q 0 0 h n 31 [some (.ref 33), some (.int (nxB SN (F 53) (F 39) nd k)), some (.int (nI k)), o3, o4] [.int j31_0] := by
        intro j31_0 hj31_0
        refine ew_istore_n (t := 32) (L' := [some (.ref 33), some (.int (nxB SN (F 53) (F 39) nd k)), some (.int (nI k)), some (.int j31_0), o4]) dX4_next_31 rfl (Nat.le_of_ble_eq_true rfl) rfl rfl ?_
        refine ew_ic0 (t := 33) dX4_next_32 rfl ?_
        refine ew_istore (t := 35) (L' := [some (.ref 33), some (.int (nxB SN (F 53) (F 39) nd k)), some (.int (nI k)), some (.int j31_0), some (.int 0)]) dX4_next_33 (Nat.le_of_ble_eq_true rfl) rfl rfl ?_
        rw [show j31_0 = p01 (lN (SN k)) from hj31_0]
        refine lp_nextD (v := p01 (lN (SN k))) mc h27 hnd ?_ nd 0 (by omega)
        refine ew_iload_n (t := 72) dX4_next_71 rfl rfl rfl ?_
        have J116 : ∀ (j116_0 : Int32), j116_0 = ((if (nxD (F 53) (nI k) (p01 (lN (SN k))) nd) = 0 then (nxB SN (F 53) (F 39) nd k) else (if (nxB SN (F 53) (F 39) nd k) < 0 then (nI k) else (if ((lN (SN k)) * ((F 39) ((nxB SN (F 53) (F 39) nd k).toNatClampNeg)).toInt64) ≤ ((lN (SN (nxB SN (F 53) (F 39) nd k).toNatClampNeg)) * ((F 39) k).toInt64) then (nxB SN (F 53) (F 39) nd k) else (nI k)))) : Int32) → EW l G yX4_next cX4_next 5 (some .int) 6 0 0 Q 0 0 h n 116 [some (.ref 33), some (.int (nxB SN (F 53) (F 39) nd k)), some (.int (nI k)), some (.int (nxD (F 53) (nI k) (p01 (lN (SN k))) nd)), some (.int (nI nd))] [.int j116_0] := by
          intro j116_0 hj116_0
          refine ew_istore_n (t := 117) (L' := [some (.ref 33), some (.int j116_0), some (.int (nI k)), some (.int (nxD (F 53) (nI k) (p01 (lN (SN k))) nd)), some (.int (nI nd))]) dX4_next_116 rfl (Nat.le_of_ble_eq_true rfl) rfl rfl ?_
          refine ew_iinc (t := 120) (x := (nI k)) (v := ((nI k) + 1)) (L' := [some (.ref 33), some (.int j116_0), some (.int ((nI k) + 1)), some (.int (nxD (F 53) (nI k) (p01 (lN (SN k))) nd)), some (.int (nI nd))]) dX4_next_117 rfl rfl (Nat.le_of_ble_eq_true rfl) rfl rfl ?_
          refine ew_goto (t := 9) dX4_next_120 rfl ?_
          rw [nI_1]
          rw [show j116_0 = nxB SN (F 53) (F 39) nd (k + 1) from hj116_0]
          exact ih (k + 1) _ _ (by omega)
        refine ew_if_eq (t := 115) (t2 := 75) dX4_next_72 rfl rfl (fun c_72 => ?_) (fun c_72 => ?_)
        · refine ew_iload_n (t := 116) dX4_next_115 rfl rfl rfl ?_
          exact J116 (nxB SN (F 53) (F 39) nd k) (by simp only [if_pos c_72])
        · refine ew_iload_n (t := 76) dX4_next_75 rfl rfl rfl ?_
          refine ew_if_lt (t := 111) (t2 := 79) dX4_next_76 rfl rfl (fun c_76 => ?_) (fun c_76 => ?_)
          · refine ew_iload_n (t := 112) dX4_next_111 rfl rfl rfl ?_
            refine ew_goto (t := 116) dX4_next_112 rfl ?_
            exact J116 (nI k) (by simp only [if_neg c_72, if_pos c_76])
          · refine ew_aload_n (t := 80) dX4_next_79 rfl rfl rfl ?_
            refine ew_get (t := 83) (j := 30) (v := .ref 55) fcX4 mc.1 (Nat.le_of_ble_eq_true rfl) q1051 rfl dX4_next_80 rfl ?_
            refine ew_iload_n (t := 84) dX4_next_83 rfl rfl rfl ?_
            refine ew_lald (t := 85) (j := k) (N := 100) mc.2.1 (vp_in_nI (by omega) (by omega)) (nI_clamp (by omega)) dX4_next_84 rfl ?_
            rw [hFL k (by omega)]
            refine ew_aload_n (t := 86) dX4_next_85 rfl rfl rfl ?_
            refine ew_get (t := 89) (j := 5) (v := .ref 39) fcX4 mc.1 (Nat.le_of_ble_eq_true rfl) q1026 rfl dX4_next_86 rfl ?_
            refine ew_iload_n (t := 90) dX4_next_89 rfl rfl rfl ?_
            refine ew_iald (t := 91) (j := (nxB SN (F 53) (F 39) nd k).toNatClampNeg) (N := 100) (mI mc 39 rfl) (nxB_in (by omega) c_76).1 rfl dX4_next_90 rfl ?_
            refine ew_i2l (t := 92) dX4_next_91 rfl ?_
            refine ew_lmul (t := 93) dX4_next_92 rfl ?_
            refine ew_aload_n (t := 94) dX4_next_93 rfl rfl rfl ?_
            refine ew_get (t := 97) (j := 30) (v := .ref 55) fcX4 mc.1 (Nat.le_of_ble_eq_true rfl) q1051 rfl dX4_next_94 rfl ?_
            refine ew_iload_n (t := 98) dX4_next_97 rfl rfl rfl ?_
            refine ew_lald (t := 99) (j := (nxB SN (F 53) (F 39) nd k).toNatClampNeg) (N := 100) mc.2.1 (nxB_in (by omega) c_76).1 rfl dX4_next_98 rfl ?_
            rw [hFL (nxB SN (F 53) (F 39) nd k).toNatClampNeg (nxB_in (by omega) c_76).2]
            refine ew_aload_n (t := 100) dX4_next_99 rfl rfl rfl ?_
            refine ew_get (t := 103) (j := 5) (v := .ref 39) fcX4 mc.1 (Nat.le_of_ble_eq_true rfl) q1026 rfl dX4_next_100 rfl ?_
            refine ew_iload_n (t := 104) dX4_next_103 rfl rfl rfl ?_
            refine ew_iald (t := 105) (j := k) (N := 100) (mI mc 39 rfl) (vp_in_nI (by omega) (by omega)) (nI_clamp (by omega)) dX4_next_104 rfl ?_
            refine ew_i2l (t := 106) dX4_next_105 rfl ?_
            refine ew_lmul (t := 107) dX4_next_106 rfl ?_
            refine ew_lcmp_le (t1 := 108) (t := 115) (t2 := 111) dX4_next_107 rfl dX4_next_108 rfl rfl (fun c_107 => ?_) (fun c_107 => ?_)
            · refine ew_iload_n (t := 116) dX4_next_115 rfl rfl rfl ?_
              exact J116 (nxB SN (F 53) (F 39) nd k) (by simp only [if_neg c_72, if_neg c_76, if_pos c_107])
            · refine ew_iload_n (t := 112) dX4_next_111 rfl rfl rfl ?_
              refine ew_goto (t := 116) dX4_next_112 rfl ?_
              exact J116 (nI k) (by simp only [if_neg c_72, if_neg c_76, if_neg c_107])
      refine ew_lcmp_le (t1 := 23) (t := 30) (t2 := 26) dX4_next_22 rfl dX4_next_23 rfl rfl (fun c_22 => ?_) (fun c_22 => ?_)
      · refine ew_ic0 (t := 31) dX4_next_30 rfl ?_
        exact J31 0 (by simp only [if_pos c_22])
      · refine ew_ic1 (t := 27) dX4_next_26 rfl ?_
        refine ew_goto (t := 31) dX4_next_27 rfl ?_
        exact J31 1 (by simp only [if_neg c_22])
set_option maxHeartbeats 4000000 in
theorem mc_next {l : Launch} {G : GW} {h : AH} {n : Nat} {s : Nat → Int32} {al : Int64} {F : Nat → Nat → Int32} {FL : Nat → Int64} {a H g np nd : Nat} (mc : MC s al F FL h) (mk : MKc s F a H g np nd) {ws : List WY} (hE : ∀ R, EnM (F 34) (F 35) (F 36) 0 0 0 a H ws 0 (begR (F 34 1) R)) {SN : Nat → Nat} {AN : Nat} (hS : SumN F 0 0 H g np nd ws SN AN) : AM l G yX4_next cX4_next 5 (some .int) 6 0 0 [.ref 33] h n (OpQ s F h n (.int (nxB SN (F 53) (F 39) nd 100))) := by
  refine AM.of (L := [some (.ref 33), none, none, none, none]) (by decide) (Nat.le_of_ble_eq_true rfl) rfl ?_
  refine ew_aload_n (t := 1) dX4_next_0 rfl rfl rfl ?_
  refine ew_callV (t := 4) (As := []) (mc_endsAsTold mc mk hE) (fcX4).1 mc.1 (lw_V q1306 q1308 qs43 q60 q1309) rfl naX4_endsAsTold dX4_next_1 rfl (Nat.le_of_ble_eq_true rfl) (Nat.le_of_ble_eq_true rfl) (Nat.le_refl _) (Nat.le_refl _) (Nat.le_of_ble_eq_true rfl) rfl (fun r h1 n1 q => ?_)
  obtain ⟨rfl, rfl, q3, s', F', q4, q5, q6⟩ := q
  refine ew_bipush (t := 6) (v := (-4)) dX4_next_4 (by decide) rfl ?_
  refine ew_istore_n (t := 7) (L' := [some (.ref 33), some (.int (-4)), none, none, none]) dX4_next_6 rfl (Nat.le_of_ble_eq_true rfl) rfl rfl ?_
  refine ew_ic0 (t := 8) dX4_next_7 rfl ?_
  refine ew_istore_n (t := 9) (L' := [some (.ref 33), some (.int (-4)), some (.int 0), none, none]) dX4_next_8 rfl (Nat.le_of_ble_eq_true rfl) rfl rfl ?_
  exact lp_next q4 ((q6 27 (by decide) (by decide) (by decide) (by decide) (by decide) (by decide)).trans mk.2.2.2.2.2.2.2.2.2.2.1) mk.2.2.2.2.2.2.2.2.2.2.2.1 (fun j hj => (hS.1 j hj).1) (OpQ.end q3 q4 q5 q6 (by rw [q5 53 (by omega), q5 39 (by omega)])) 100 0 none none (by omega)
