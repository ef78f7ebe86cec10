/-! the reference: lowest, odds, where -/
set_option maxRecDepth 100000
/-- of a fraction in lowest terms the upper part, or the lower -/
def lowF (a b : Nat) (what : Int32) : Int64 := if ¬ what = 0 then lN (b / Nat.gcd a b) else lN (a / Nat.gcd a b)
set_option maxHeartbeats 4000000 in
theorem lp_lowest {l : Launch} {G : GW} {h : AH} {n : Nat} {a b : Nat} {what : Int32} (hb0 : 0 < b) (ha : a < 2 ^ 63) (hb : b < 2 ^ 63) : ∀ (q : Nat) (p : Nat) (o9 : Option Value), Nat.gcd p q = Nat.gcd a b → p < 2 ^ 63 → q < 2 ^ 63 → EW l G yX4_lowest cX4_lowest 11 (some .long) 0 0 0 (Ql (lowF a b what) h n) 0 0 h n 6 [some (.long (lN a)), none, some (.long (lN b)), none, some (.int what), some (.long (lN p)), none, some (.long (lN q)), none, o9, none] [] := by
  intro q
  induction q using Nat.strongRecOn with
  | ind q ih =>
    intro p o9 hg hp hq
    refine ew_lload (t := 8) dX4_lowest_6 rfl rfl ?_
    refine ew_lc0 (t := 9) dX4_lowest_8 rfl ?_
    refine ew_lcmp_eq (t1 := 10) (t := 31) (t2 := 13) dX4_lowest_9 rfl dX4_lowest_10 rfl rfl (fun c_9 => ?_) (fun c_9 => ?_)
    · have hq0 : q = 0 := (pk_lEQ (b := 0) hq (by omega)).mp c_9
      subst hq0
      rw [Nat.gcd_zero_right] at hg
      subst hg
      have hgp : 0 < Nat.gcd a b := Nat.gcd_pos_of_pos_right a hb0
      have hgn : ¬ lN (Nat.gcd a b) = 0 := fun e => by have := (pk_lEQ (b := 0) hp (by omega)).mp e; omega
      refine ew_iload (t := 33) dX4_lowest_31 rfl rfl ?_
      refine ew_if_ne (t := 43) (t2 := 36) dX4_lowest_33 rfl rfl (fun c_33 => ?_) (fun c_33 => ?_)
      · refine ew_lload_n (t := 44) dX4_lowest_43 rfl rfl rfl ?_
        refine ew_lload (t := 46) dX4_lowest_44 rfl rfl ?_
        refine ew_ldiv (t := 47) dX4_lowest_46 hgn rfl ?_
        exact ew_lret rfl dX4_lowest_47 (Nat.le_refl _) (Nat.le_refl _) ⟨congrArg (fun z => some (Value.long z)) (by unfold lowF; rw [if_pos c_33, pk_lDiv hb hgp hp]), rfl, rfl⟩
      · refine ew_lload_n (t := 37) dX4_lowest_36 rfl rfl rfl ?_
        refine ew_lload (t := 39) dX4_lowest_37 rfl rfl ?_
        refine ew_ldiv (t := 40) dX4_lowest_39 hgn rfl ?_
        refine ew_goto (t := 47) dX4_lowest_40 rfl ?_
        exact ew_lret rfl dX4_lowest_47 (Nat.le_refl _) (Nat.le_refl _) ⟨congrArg (fun z => some (Value.long z)) (by unfold lowF; rw [if_neg (not_not_intro c_33), pk_lDiv ha hgp hp]), rfl, rfl⟩
    · have hq0 : 0 < q := Nat.pos_of_ne_zero (fun e => c_9 (by rw [e]; rfl))
      refine ew_lload (t := 15) dX4_lowest_13 rfl rfl ?_
      refine ew_lload (t := 17) dX4_lowest_15 rfl rfl ?_
      refine ew_lrem (t := 18) dX4_lowest_17 c_9 rfl ?_
      rw [pk_lRem hp hq0 hq]
      refine ew_lstore (t := 20) (L' := [some (.long (lN a)), none, some (.long (lN b)), none, some (.int what), some (.long (lN p)), none, some (.long (lN q)), none, some (.long (lN (p % q))), none]) dX4_lowest_18 (Nat.le_of_ble_eq_true rfl) rfl rfl ?_
      refine ew_lload (t := 22) dX4_lowest_20 rfl rfl ?_
      refine ew_lstore (t := 24) (L' := [some (.long (lN a)), none, some (.long (lN b)), none, some (.int what), some (.long (lN q)), none, some (.long (lN q)), none, some (.long (lN (p % q))), none]) dX4_lowest_22 (Nat.le_of_ble_eq_true rfl) rfl rfl ?_
      refine ew_lload (t := 26) dX4_lowest_24 rfl rfl ?_
      refine ew_lstore (t := 28) (L' := [some (.long (lN a)), none, some (.long (lN b)), none, some (.int what), some (.long (lN q)), none, some (.long (lN (p % q))), none, some (.long (lN (p % q))), none]) dX4_lowest_26 (Nat.le_of_ble_eq_true rfl) rfl rfl ?_
      refine ew_goto (t := 6) dX4_lowest_28 rfl ?_
      exact ih (p % q) (Nat.mod_lt p hq0) q _ (by rw [← hg, Nat.gcd_comm p q]; exact (Nat.gcd_rec q p).symm ▸ by rw [Nat.gcd_comm]) hq (by have := Nat.mod_lt p hq0; omega)
set_option maxHeartbeats 4000000 in
theorem am_lowest {l : Launch} {G : GW} {h : AH} {n : Nat} {a b : Nat} {what : Int32} (hb0 : 0 < b) (ha : a < 2 ^ 63) (hb : b < 2 ^ 63) : AM l G yX4_lowest cX4_lowest 11 (some .long) 0 0 0 [.long (lN a), .long (lN b), .int what] h n (Ql (lowF a b what) h n) := by
  refine AM.of (L := [some (.long (lN a)), none, some (.long (lN b)), none, some (.int what), none, none, none, none, none, none]) (by decide) (Nat.le_of_ble_eq_true rfl) rfl ?_
  refine ew_lload_n (t := 1) dX4_lowest_0 rfl rfl rfl ?_
  refine ew_lstore (t := 3) (L' := [some (.long (lN a)), none, some (.long (lN b)), none, some (.int what), some (.long (lN a)), none, none, none, none, none]) dX4_lowest_1 (Nat.le_of_ble_eq_true rfl) rfl rfl ?_
  refine ew_lload_n (t := 4) dX4_lowest_3 rfl rfl rfl ?_
  refine ew_lstore (t := 6) (L' := [some (.long (lN a)), none, some (.long (lN b)), none, some (.int what), some (.long (lN a)), none, some (.long (lN b)), none, none, none]) dX4_lowest_4 (Nat.le_of_ble_eq_true rfl) rfl rfl ?_
  exact lp_lowest hb0 ha hb b a none rfl ha hb
