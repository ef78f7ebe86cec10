-- Obj fields dict_keys(['cls', 'fun', 'sname', 'refs', 'extra', 'ups'])
/-! the component: part, odds, where -/
set_option maxRecDepth 100000
theorem lp_0 : ∀ j, j < 4 → (false = decide ((-1 : Int32) = 8 + nI j)) := by decide +kernel
theorem ld_0 : (false = decide ((-1 : Int32) = 12)) := by decide +kernel
theorem sN_lt {F : Nat → Nat → Int32} {lp : Nat → Bool} {ld : Bool} {EN : Nat → Nat} {np nd c : Nat} (h1 : np ≤ 4) (h2 : nd ≤ 4) (h3 : EN c < 2 ^ 30) : sN F lp ld EN np nd c < 2 ^ 50 := by
  have p4 : pN F lp c np ≤ 2 ^ 8 := Nat.le_trans (pN_le np) (Nat.le_trans (Nat.pow_le_pow_right (by omega) h1) (by decide))
  have d4 : dN F ld c nd ≤ 2 ^ 12 := Nat.le_trans (dN_le nd) (Nat.le_trans (Nat.pow_le_pow_right (by omega) h2) (by decide))
  have e1 : EN c * pN F lp c np ≤ (2 ^ 30 - 1) * 2 ^ 8 := Nat.mul_le_mul (by omega) p4
  exact Nat.lt_of_le_of_lt (Nat.mul_le_mul e1 d4) (by decide)
theorem foS_lt {SN : Nat → Nat} {B : Nat} : ∀ k, (∀ j, j < k → SN j < B) → foS SN k ≤ k * B
  | 0, _ => by rw [Nat.zero_mul]; exact Nat.le_refl _
  | k + 1, h => by
    have := foS_lt k (fun j hj => h j (by omega))
    have := h k (by omega)
    show foS SN k + SN k ≤ (k + 1) * B
    rw [Nat.succ_mul]; omega
theorem ax_part_g {g b : Nat} (h : 0 < g) (hg : g < 2 ^ 63) : ¬ lN g = 0 := fun e => by have := (pk_lEQ (b := 0) hg (by omega)).mp e; omega
set_option maxHeartbeats 600000 in
theorem lx_part {l : Launch} {G : GW} {h : AH} {n : Nat} {a b : Nat} {what : Int32} (hb0 : 0 < b) (ha : a < 2 ^ 63) (hb : b < 2 ^ 63) : ∀ (q : Nat) (p : Nat) (o9 : Option Value), Nat.gcd p q = Nat.gcd a b → p < 2 ^ 63 → q < 2 ^ 63 → EW l G yX0_part cX0_part 11 (some .long) 0 0 0 (Ql (lowF a b what) h n) 0 0 h n 6 [some (.long (lN a)), none, some (.long (lN b)), none, some (.int what), some (.long (lN p)), none, some (.long (lN q)), none, o9, none] [] := by
  intro q
  induction q using Nat.strongRecOn with
  | ind q ih =>
    intro p o9 hg hp hq
    refine ew_lload (t := 8) dX0_part_6 rfl rfl ?_
    refine ew_lc0 (t := 9) dX0_part_8 rfl ?_
    refine ew_lcmp_eq (t1 := 10) (t := 31) (t2 := 13) dX0_part_9 rfl dX0_part_10 rfl rfl (fun c_9 => ?_) (fun c_9 => ?_)
    · have hq0 : q = 0 := (pk_lEQ (b := 0) hq (by omega)).mp c_9
      subst hq0
      rw [Nat.gcd_zero_right] at hg
      subst hg
      have hgp : 0 < Nat.gcd a b := Nat.gcd_pos_of_pos_right a hb0
      have hgn : ¬ lN (Nat.gcd a b) = 0 := fun e => by have := (pk_lEQ (b := 0) hp (by omega)).mp e; omega
      refine ew_iload (t := 33) dX0_part_31 rfl rfl ?_
      refine ew_if_ne (t := 40) (t2 := 36) dX0_part_33 rfl rfl (fun c_33 => ?_) (fun c_33 => ?_)
      · refine ew_lload_n (t := 41) dX0_part_40 rfl rfl rfl ?_
        refine ew_lload (t := 43) dX0_part_41 rfl rfl ?_
        refine ew_ldiv (t := 44) dX0_part_43 hgn rfl ?_
        exact ew_lret rfl dX0_part_44 (Nat.le_refl _) (Nat.le_refl _) ⟨congrArg (fun z => some (Value.long z)) (by unfold lowF; rw [if_pos c_33, pk_lDiv hb hgp hp]), rfl, rfl⟩
      · refine ew_lload_n (t := 37) dX0_part_36 rfl rfl rfl ?_
        refine ew_goto (t := 41) dX0_part_37 rfl ?_
        refine ew_lload (t := 43) dX0_part_41 rfl rfl ?_
        refine ew_ldiv (t := 44) dX0_part_43 hgn rfl ?_
        exact ew_lret rfl dX0_part_44 (Nat.le_refl _) (Nat.le_refl _) ⟨congrArg (fun z => some (Value.long z)) (by unfold lowF; rw [if_neg (not_not_intro c_33), pk_lDiv ha hgp hp]), rfl, rfl⟩
    · have hq0 : 0 < q := Nat.pos_of_ne_zero (fun e => c_9 (by rw [e]; rfl))
      refine ew_lload (t := 15) dX0_part_13 rfl rfl ?_
      refine ew_lload (t := 17) dX0_part_15 rfl rfl ?_
      refine ew_lrem (t := 18) dX0_part_17 c_9 rfl ?_
      rw [pk_lRem hp hq0 hq]
      refine ew_lstore (t := 20) (L' := [some (.long (lN a)), none, some (.long (lN b)), none, some (.int what), some (.long (lN p)), none, some (.long (lN q)), none, some (.long (lN (p % q))), none]) dX0_part_18 (Nat.le_of_ble_eq_true rfl) rfl rfl ?_
      refine ew_lload (t := 22) dX0_part_20 rfl rfl ?_
      refine ew_lstore (t := 24) (L' := [some (.long (lN a)), none, some (.long (lN b)), none, some (.int what), some (.long (lN q)), none, some (.long (lN q)), none, some (.long (lN (p % q))), none]) dX0_part_22 (Nat.le_of_ble_eq_true rfl) rfl rfl ?_
      refine ew_lload (t := 26) dX0_part_24 rfl rfl ?_
      refine ew_lstore (t := 28) (L' := [some (.long (lN a)), none, some (.long (lN b)), none, some (.int what), some (.long (lN q)), none, some (.long (lN (p % q))), none, some (.long (lN (p % q))), none]) dX0_part_26 (Nat.le_of_ble_eq_true rfl) rfl rfl ?_
      refine ew_goto (t := 6) dX0_part_28 rfl ?_
      exact ih (p % q) (Nat.mod_lt p hq0) q _ (by rw [← hg, Nat.gcd_comm p q]; exact (Nat.gcd_rec q p).symm ▸ by rw [Nat.gcd_comm]) hq (by have := Nat.mod_lt p hq0; omega)
set_option maxHeartbeats 600000 in
theorem ax_part {l : Launch} {G : GW} {h : AH} {n : Nat} {a b : Nat} {what : Int32} (hb0 : 0 < b) (ha : a < 2 ^ 63) (hb : b < 2 ^ 63) : AM l G yX0_part cX0_part 11 (some .long) 0 0 0 [.long (lN a), .long (lN b), .int what] h n (Ql (lowF a b what) h n) := by
  refine AM.of (L := [some (.long (lN a)), none, some (.long (lN b)), none, some (.int what), none, none, none, none, none, none]) (by decide) (Nat.le_of_ble_eq_true rfl) rfl ?_
  refine ew_lload_n (t := 1) dX0_part_0 rfl rfl rfl ?_
  refine ew_lstore (t := 3) (L' := [some (.long (lN a)), none, some (.long (lN b)), none, some (.int what), some (.long (lN a)), none, none, none, none, none]) dX0_part_1 (Nat.le_of_ble_eq_true rfl) rfl rfl ?_
  refine ew_lload_n (t := 4) dX0_part_3 rfl rfl rfl ?_
  refine ew_lstore (t := 6) (L' := [some (.long (lN a)), none, some (.long (lN b)), none, some (.int what), some (.long (lN a)), none, some (.long (lN b)), none, none, none]) dX0_part_4 (Nat.le_of_ble_eq_true rfl) rfl rfl ?_
  exact lx_part hb0 ha hb b a none rfl ha hb
set_option maxHeartbeats 600000 in
theorem xc_odds {l : Launch} {G : GW} {h : AH} {n : Nat} {s ce : Nat → Int32} {F : Nat → Nat → Int32} {a b H T S U g wd np nd : Nat} (hn : 63 ≤ n) (x1 : h 1 = some (XO s)) (x16 : h 16 = some (IA 7 ce)) (sc : scX h) (xr : XR F np nd h n) (wk : WKc F a b H T S U g wd) (ok : OKP F np nd) {EN : Nat → Nat} (hE : ∀ j, j < 100 → waysS H g (allW F 0 0 0 a b H T S U) (fun _ => 0) j = lN (EN j) ∧ EN j < 2 ^ 30) (c part : Int32) : AM l G yX0_odds cX0_odds 5 (some .long) 34 2 101 [.ref 1, .int c, .int part] h n (XQ s h n (.long (odF (sN F (fun _ => false) false EN np nd) (foS (sN F (fun _ => false) false EN np nd) 100) c part))) := by
  refine AM.of (L := [some (.ref 1), some (.int c), some (.int part), none, none]) (by decide) (Nat.le_of_ble_eq_true rfl) rfl ?_
  have xt := xr.2.1
  have hnp := xr.2.2.1.1
  have hnd := xr.2.2.2.1
  have hSN : ∀ j, j < 100 → (sN F (fun _ => false) false EN np nd) j < 2 ^ 50 := fun j hj => sN_lt hnp hnd (hE j hj).2
  have hAN : (foS (sN F (fun _ => false) false EN np nd) 100) < 2 ^ 60 := Nat.lt_of_le_of_lt (foS_lt 100 hSN) (by decide)
  refine ew_iload_n (t := 1) dX0_odds_0 rfl rfl rfl ?_
  refine ew_callS (t := 4) (As := [_]) (ax_isCell  _) (lw_S q333 q334 q51 q335) naX0_isCell dX0_odds_1 rfl (Nat.le_of_ble_eq_true rfl) (Nat.le_of_ble_eq_true rfl) (by omega) (by omega) (Nat.le_of_ble_eq_true rfl) rfl (qi ?_)
  refine ew_if_eq (t := 16) (t2 := 7) dX0_odds_4 rfl rfl (fun c_4 => ?_) (fun c_4 => ?_)
  · refine ew_ldc2 (t := 19) (v := (-1)) dX0_odds_16 q733 rfl ?_
    exact ew_lret rfl dX0_odds_19 (by decide) (by decide) (by rw [show odF (sN F (fun _ => false) false EN np nd) (foS (sN F (fun _ => false) false EN np nd) 100) c part = -1 from by unfold odF; rw [if_pos c_4]]; exact XQ.same x1 sc)
  · refine ew_iload_n (t := 8) dX0_odds_7 rfl rfl rfl ?_
    refine ew_ic0 (t := 9) dX0_odds_8 rfl ?_
    refine ew_ic1 (t := 10) dX0_odds_9 rfl ?_
    refine ew_callS (t := 13) (As := [_, _, _]) (ax_isIn _ _ _) (lw_S q330 q331 q51 q332) naX0_isIn dX0_odds_10 rfl (Nat.le_of_ble_eq_true rfl) (Nat.le_of_ble_eq_true rfl) (by omega) (by omega) (Nat.le_of_ble_eq_true rfl) rfl (qi ?_)
    refine ew_if_ne (t := 20) (t2 := 16) dX0_odds_13 rfl rfl (fun c_13 => ?_) (fun c_13 => ?_)
    · obtain ⟨j, hj, rfl⟩ := in99 c_4
      refine ew_aload_n (t := 21) dX0_odds_20 rfl rfl rfl ?_
      refine ew_icm1 (t := 22) dX0_odds_21 rfl ?_
      refine ew_aload_n (t := 23) dX0_odds_22 rfl rfl rfl ?_
      refine ew_get (t := 26) (j := 16) (v := .ref 17) fcX0 x1 (Nat.le_of_ble_eq_true rfl) q278 rfl dX0_odds_23 rfl ?_
      refine ew_callV (t := 29) (As := [_, _]) (xf_findOdds hn x1 x16 sc xr wk ok FLG_0 (lp := fun _ => false) (ld := false) (fun j hj => lp_0 j (by omega)) ld_0 hE (tc := 17) (Or.inl rfl)) (fcX0).1 x1 (lw_V q734 q736 qs22 q51 q737) rfl naX0_findOdds dX0_odds_26 rfl (Nat.le_of_ble_eq_true rfl) (Nat.le_of_ble_eq_true rfl) (by omega) (by omega) (Nat.le_of_ble_eq_true rfl) rfl (fun rr h9 n9 qq => ?_)
      obtain ⟨rfl, qn, qf, ⟨f9, t9, hf9⟩, -, qs, ⟨s9, x9, kp9⟩, xr9⟩ := qq
      subst qn
      refine ew_lstore_n (t := 30) (L' := [some (.ref 1), some (.int (nI j)), some (.int part), some (.long (lN (foS (sN F (fun _ => false) false EN np nd) 100))), none]) dX0_odds_29 rfl (Nat.le_of_ble_eq_true rfl) rfl rfl ?_
      refine ew_lload_n (t := 31) dX0_odds_30 rfl rfl rfl ?_
      refine ew_lc0 (t := 32) dX0_odds_31 rfl ?_
      refine ew_lcmp_ne (t1 := 33) (t := 42) (t2 := 36) dX0_odds_32 rfl dX0_odds_33 rfl rfl (fun c_32 => ?_) (fun c_32 => ?_)
      · refine ew_aload_n (t := 43) dX0_odds_42 rfl rfl rfl ?_
        refine ew_get (t := 46) (j := 16) (v := .ref 17) fcX0 x9 (Nat.le_of_ble_eq_true rfl) q278 rfl dX0_odds_43 rfl ?_
        refine ew_iload_n (t := 47) dX0_odds_46 rfl rfl rfl ?_
        refine ew_lald (t := 48) (j := j) (N := 100) t9 (vp_in_nI hj (by omega)) (nI_clamp (by omega)) dX0_odds_47 rfl ?_
        rw [hf9 j hj]
        refine ew_lload_n (t := 49) dX0_odds_48 rfl rfl rfl ?_
        refine ew_iload_n (t := 50) dX0_odds_49 rfl rfl rfl ?_
        have hA0 : 0 < (foS (sN F (fun _ => false) false EN np nd) 100) := Nat.pos_of_ne_zero (fun e => c_32 (by rw [e]; rfl))
        refine ew_callS (t := 53) (As := [_, _, _]) (ax_part (h := h9) hA0 (by have := hSN j hj; omega) (by omega)) (lw_S q754 q755 q51 q756) naX0_part dX0_odds_50 rfl (Nat.le_of_ble_eq_true rfl) (Nat.le_of_ble_eq_true rfl) (by omega) (by omega) (Nat.le_of_ble_eq_true rfl) rfl (ql ?_)
        exact ew_lret rfl dX0_odds_53 (by decide) (by decide) ⟨by rw [show odF (sN F (fun _ => false) false EN np nd) (foS (sN F (fun _ => false) false EN np nd) 100) (nI j) part = lowF ((sN F (fun _ => false) false EN np nd) j) (foS (sN F (fun _ => false) false EN np nd) 100) part from by unfold odF; rw [if_neg c_4, show b2i (inL part.toInt64 0 1) = b2i (inI part 0 1) from congrArg b2i (inL_I part 0 1), if_neg c_13, if_neg (fun e => c_32 (by rw [e]; rfl)), nI_clamp (n := j) (by omega)]], by omega, qf, qs, s9, x9, kp9⟩
      · refine ew_ldc2 (t := 39) (v := (-4)) dX0_odds_36 q753 rfl ?_
        refine ew_goto (t := 53) dX0_odds_39 rfl ?_
        exact ew_lret rfl dX0_odds_53 (by decide) (by decide) ⟨by rw [show odF (sN F (fun _ => false) false EN np nd) (foS (sN F (fun _ => false) false EN np nd) 100) (nI j) part = -4 from by unfold odF; rw [if_neg c_4, show b2i (inL part.toInt64 0 1) = b2i (inI part 0 1) from congrArg b2i (inL_I part 0 1), if_neg c_13, if_pos ((pk_lEQ (b := 0) (by omega) (by omega)).mp c_32)]], by omega, qf, qs, s9, x9, kp9⟩
    · refine ew_ldc2 (t := 19) (v := (-1)) dX0_odds_16 q733 rfl ?_
      exact ew_lret rfl dX0_odds_19 (by decide) (by decide) (by rw [show odF (sN F (fun _ => false) false EN np nd) (foS (sN F (fun _ => false) false EN np nd) 100) c part = -1 from by unfold odF; rw [if_neg c_4, show b2i (inL part.toInt64 0 1) = b2i (inI part 0 1) from congrArg b2i (inL_I part 0 1), if_pos c_13]]; exact XQ.same x1 sc)
