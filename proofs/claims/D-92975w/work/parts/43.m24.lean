/-! the reference: moves, most -/
set_option maxRecDepth 100000
/-- what is known of the reference's numbers: all ways for each flags, their sums as told and without an assumption -/
def BaM (s : Nat → Int32) (F : Nat → Nat → Int32) (a H g np nd : Nat) (W : Int32 → Int32 → Int32 → List WY) (SN : Nat → Nat) (AN : Nat) (SW : Int32 → Nat → Nat) (AW : Int32 → Nat) : Prop := MKc s F a H g np nd ∧ (∀ nr nt nf R, EnM (F 34) (F 35) (F 36) nr nt nf a H (W nr nt nf) 0 (begR (F 34 1) R)) ∧ SumN F 0 0 H g np nd (W 0 0 0) SN AN ∧ ∀ c, SumN F (fP c) (fD c) H g np nd (W (fR c) (fT c) (fF c)) (SW c) (AW c)
theorem SumN.keep {F F' : Nat → Nat → Int32} {noP noD : Int32} {H g np nd : Nat} {ws : List WY} {SN : Nat → Nat} {AN : Nat} (e : ∀ k, perM k = true → F' k = F k) (hS : SumN F noP noD H g np nd ws SN AN) : SumN F' noP noD H g np nd ws SN AN := by
  unfold SumN at hS ⊢
  rw [suF_keep e, alF_keep e]
  exact hS
theorem BaM.keep {s s' : Nat → Int32} {F F' : Nat → Nat → Int32} {a H g np nd : Nat} {W : Int32 → Int32 → Int32 → List WY} {SN : Nat → Nat} {AN : Nat} {SW : Int32 → Nat → Nat} {AW : Int32 → Nat} (bm : BaM s F a H g np nd W SN AN SW AW) (kp : keepM s F s' F') : BaM s' F' a H g np nd W SN AN SW AW := by
  refine ⟨bm.1.keep kp.1 kp.2.2.1 kp.2.2.2.1, ?_, bm.2.2.1.keep kp.1, fun c => (bm.2.2.2 c).keep kp.1⟩
  rw [kp.1 34 rfl, kp.1 35 rfl, kp.1 36 rfl]
  exact bm.2.1
theorem keepM.trans {s s' s2 : Nat → Int32} {F F' F2 : Nat → Nat → Int32} (h1 : keepM s F s' F') (h2 : keepM s' F' s2 F2) : keepM s F s2 F2 :=
  ⟨fun k hk => (h2.1 k hk).trans (h1.1 k hk), h2.2.1.trans h1.2.1, h2.2.2.1.trans h1.2.2.1, h2.2.2.2.1.trans h1.2.2.2.1, h2.2.2.2.2.trans h1.2.2.2.2⟩
theorem keepM.refl {s : Nat → Int32} {F : Nat → Nat → Int32} : keepM s F s F := ⟨fun _ _ => rfl, rfl, rfl, rfl, rfl⟩
/-- how far shares move without c; no such assumption: -1 -/
def vlF (s25 : Int32) (SN : Nat → Nat) (AN : Nat) (SW : Int32 → Nat → Nat) (AW : Int32 → Nat) (c : Int32) : Int32 := if asmI s25 c = 0 then -1 else mvF SN AN (SW c) (AW c)
def msV (s25 : Int32) (SN : Nat → Nat) (AN : Nat) (SW : Int32 → Nat → Nat) (AW : Int32 → Nat) : Nat → Int32
  | 0 => -1
  | k + 1 => if vlF s25 SN AN SW AW (nI k) ≤ msV s25 SN AN SW AW k then msV s25 SN AN SW AW k else vlF s25 SN AN SW AW (nI k)
def msI (s25 : Int32) (SN : Nat → Nat) (AN : Nat) (SW : Int32 → Nat → Nat) (AW : Int32 → Nat) : Nat → Int32
  | 0 => 0
  | k + 1 => if vlF s25 SN AN SW AW (nI k) ≤ msV s25 SN AN SW AW k then msI s25 SN AN SW AW k else nI k

-- Obj fields dict_keys(['cls', 'fun', 'sname', 'refs', 'extra', 'ups'])
set_option maxHeartbeats 4000000 in
theorem mc_moves {l : Launch} {G : GW} {h : AH} {n : Nat} {s : Nat → Int32} {al : Int64} {F : Nat → Nat → Int32} {FL : Nat → Int64} {a H g np nd : Nat} (mc : MC s al F FL h) {W : Int32 → Int32 → Int32 → List WY} {SN : Nat → Nat} {AN : Nat} {SW : Int32 → Nat → Nat} {AW : Int32 → Nat} (bm : BaM s F a H g np nd W SN AN SW AW) (c : Int32) : AM l G yX4_moves cX4_moves 2 (some .int) 7 0 0 [.ref 33, .int c] h n (OpQ s F h n (.int (vlF (s 25) SN AN SW AW c))) := by
  refine AM.of (L := [some (.ref 33), some (.int c)]) (by decide) (Nat.le_of_ble_eq_true rfl) rfl ?_
  refine ew_aload_n (t := 1) dX4_moves_0 rfl rfl rfl ?_
  refine ew_iload_n (t := 2) dX4_moves_1 rfl rfl rfl ?_
  refine ew_callV (t := 5) (As := [_]) (am_isAssumption (h := h) mc.1 _) (fcX4).1 mc.1 (lw_V q1331 q1333 qs45 q60 q1334) rfl naX4_isAssumption dX4_moves_2 rfl (Nat.le_of_ble_eq_true rfl) (Nat.le_of_ble_eq_true rfl) (Nat.le_refl _) (Nat.le_refl _) (Nat.le_of_ble_eq_true rfl) rfl (qi ?_)
  refine ew_if_eq (t := 16) (t2 := 8) dX4_moves_5 rfl rfl (fun c_5 => ?_) (fun c_5 => ?_)
  · refine ew_icm1 (t := 17) dX4_moves_16 rfl ?_
    exact ew_iret rfl dX4_moves_17 (Nat.le_refl _) (Nat.le_refl _) (OpQ.same mc (congrArg Value.int (by unfold vlF; rw [if_pos c_5])))
  · refine ew_aload_n (t := 9) dX4_moves_8 rfl rfl rfl ?_
    refine ew_iload_n (t := 10) dX4_moves_9 rfl rfl rfl ?_
    refine ew_callV (t := 13) (As := [_]) (mc_moved mc bm.1 bm.2.1 bm.2.2.1 c (bm.2.2.2 c)) (fcX4).1 mc.1 (lw_V q1336 q1338 qs46 q60 q1339) rfl naX4_moved dX4_moves_10 rfl (Nat.le_of_ble_eq_true rfl) (Nat.le_of_ble_eq_true rfl) (Nat.le_refl _) (Nat.le_refl _) (Nat.le_of_ble_eq_true rfl) rfl (fun r h2 n2 q => ?_)
    obtain ⟨qn, rfl, q3, s2, al2, F2, FL2, q4, q5⟩ := q
    replace qn := qn.symm
    subst qn
    refine ew_goto (t := 17) dX4_moves_13 rfl ?_
    exact ew_iret rfl dX4_moves_17 (Nat.le_refl _) (Nat.le_refl _) ⟨rfl, by unfold vlF; rw [if_neg c_5], q3, s2, al2, F2, FL2, q4, q5⟩
set_option maxHeartbeats 4000000 in
theorem lp_most {l : Launch} {G : GW} {h : AH} {n : Nat} {s : Nat → Int32} {F : Nat → Nat → Int32} {a H g np nd : Nat} {W : Int32 → Int32 → Int32 → List WY} {SN : Nat → Nat} {AN : Nat} {SW : Int32 → Nat → Nat} {AW : Int32 → Nat} (bm : BaM s F a H g np nd W SN AN SW AW) : ∀ (f k : Nat) (h1 : AH) (o4 : Option Value), k + f = 13 → frM h h1 → (∃ s' al' F' FL', MC s' al' F' FL' h1 ∧ keepM s F s' F') → EW l G yX4_most cX4_most 5 (some .int) 7 0 0 (OpQ s F h n (.int (msI (s 25) SN AN SW AW 13))) 0 0 h1 n 6 [some (.ref 33), some (.int (msI (s 25) SN AN SW AW k)), some (.int (msV (s 25) SN AN SW AW k)), some (.int (nI k)), o4] [] := by
  intro f
  induction f with
  | zero =>
    intro k h1 o4 hk hf hm
    obtain ⟨s', al', F', FL', mc', kp⟩ := hm
    refine ew_iload_n (t := 7) dX4_most_6 rfl rfl rfl ?_
    refine ew_bipush (t := 9) (v := 13) dX4_most_7 (by decide) rfl ?_
    refine ew_icmp_ge (t := 62) (t2 := 12) dX4_most_9 rfl rfl (fun c_9 => ?_) (fun c_9 => ?_)
    · refine ew_iload_n (t := 63) dX4_most_62 rfl rfl rfl ?_
      exact ew_iret rfl dX4_most_63 (Nat.le_refl _) (Nat.le_refl _) ⟨rfl, by rw [show k = 13 by omega], hf, s', al', F', FL', mc', kp⟩
    · exact absurd (show (13 : Int32) ≤ nI k by rw [show k = 13 by omega]; decide) c_9
  | succ f ih =>
    intro k h1 o4 hk hf hm
    obtain ⟨s', al', F', FL', mc', kp⟩ := hm
    refine ew_iload_n (t := 7) dX4_most_6 rfl rfl rfl ?_
    refine ew_bipush (t := 9) (v := 13) dX4_most_7 (by decide) rfl ?_
    refine ew_icmp_ge (t := 62) (t2 := 12) dX4_most_9 rfl rfl (fun c_9 => ?_) (fun c_9 => ?_)
    · exact absurd c_9 (nI_ge (b := 13) (by omega) (by omega))
    · refine ew_aload_n (t := 13) dX4_most_12 rfl rfl rfl ?_
      refine ew_iload_n (t := 14) dX4_most_13 rfl rfl rfl ?_
      refine ew_callV (t := 17) (As := [_]) (am_isAssumption (h := h1) mc'.1 _) (fcX4).1 mc'.1 (lw_V q1331 q1333 qs45 q60 q1334) rfl naX4_isAssumption dX4_most_14 rfl (Nat.le_of_ble_eq_true rfl) (Nat.le_of_ble_eq_true rfl) (Nat.le_refl _) (Nat.le_refl _) (Nat.le_of_ble_eq_true rfl) rfl (qi ?_)
      rw [kp.2.2.1]
      refine ew_if_eq (t := 28) (t2 := 20) dX4_most_17 rfl rfl (fun c_17 => ?_) (fun c_17 => ?_)
      · refine ew_icm1 (t := 29) dX4_most_28 rfl ?_
        refine ew_istore (t := 31) (L' := [some (.ref 33), some (.int (msI (s 25) SN AN SW AW k)), some (.int (msV (s 25) SN AN SW AW k)), some (.int (nI k)), some (.int (-1))]) dX4_most_29 (Nat.le_of_ble_eq_true rfl) rfl rfl ?_
        refine ew_iload (t := 33) dX4_most_31 rfl rfl ?_
        refine ew_iload_n (t := 34) dX4_most_33 rfl rfl rfl ?_
        have J42 : ∀ (j42_0 : Int32), j42_0 = ((if (-1) ≤ (msV (s 25) SN AN SW AW k) then (msI (s 25) SN AN SW AW k) else (nI k)) : Int32) → EW l G yX4_most cX4_most 5 (some .int) 7 0 0 (OpQ s F h n (.int (msI (s 25) SN AN SW AW 13))) 0 0 h1 n 42 [some (.ref 33), some (.int (msI (s 25) SN AN SW AW k)), some (.int (msV (s 25) SN AN SW AW k)), some (.int (nI k)), some (.int (-1))] [.int j42_0] := by
          intro j42_0 hj42_0
          refine ew_istore_n (t := 43) (L' := [some (.ref 33), some (.int j42_0), some (.int (msV (s 25) SN AN SW AW k)), some (.int (nI k)), some (.int (-1))]) dX4_most_42 rfl (Nat.le_of_ble_eq_true rfl) rfl rfl ?_
          refine ew_iload (t := 45) dX4_most_43 rfl rfl ?_
          refine ew_iload_n (t := 46) dX4_most_45 rfl rfl rfl ?_
          have J55 : ∀ (j55_0 : Int32), j55_0 = ((if (-1) ≤ (msV (s 25) SN AN SW AW k) then (msV (s 25) SN AN SW AW k) else (-1)) : Int32) → EW l G yX4_most cX4_most 5 (some .int) 7 0 0 (OpQ s F h n (.int (msI (s 25) SN AN SW AW 13))) 0 0 h1 n 55 [some (.ref 33), some (.int j42_0), some (.int (msV (s 25) SN AN SW AW k)), some (.int (nI k)), some (.int (-1))] [.int j55_0] := by
            intro j55_0 hj55_0
            refine ew_istore_n (t := 56) (L' := [some (.ref 33), some (.int j42_0), some (.int j55_0), some (.int (nI k)), some (.int (-1))]) dX4_most_55 rfl (Nat.le_of_ble_eq_true rfl) rfl rfl ?_
            refine ew_iinc (t := 59) (x := (nI k)) (v := ((nI k) + 1)) (L' := [some (.ref 33), some (.int j42_0), some (.int j55_0), some (.int ((nI k) + 1)), some (.int (-1))]) dX4_most_56 rfl rfl (Nat.le_of_ble_eq_true rfl) rfl rfl ?_
            refine ew_goto (t := 6) dX4_most_59 rfl ?_
            rw [nI_1]
            have ev : vlF (s 25) SN AN SW AW (nI k) = -1 := if_pos c_17
            rw [show j42_0 = msI (s 25) SN AN SW AW (k + 1) from by rw [hj42_0, msI, ev], show j55_0 = msV (s 25) SN AN SW AW (k + 1) from by rw [hj55_0, msV, ev]]
            exact ih (k + 1) _ _ (by omega) hf ⟨s', al', F', FL', mc', kp⟩
          refine ew_icmp_le (t := 54) (t2 := 49) dX4_most_46 rfl rfl (fun c_46 => ?_) (fun c_46 => ?_)
          · refine ew_iload_n (t := 55) dX4_most_54 rfl rfl rfl ?_
            exact J55 (msV (s 25) SN AN SW AW k) (by simp only [if_pos c_46])
          · refine ew_iload (t := 51) dX4_most_49 rfl rfl ?_
            refine ew_goto (t := 55) dX4_most_51 rfl ?_
            exact J55 (-1) (by simp only [if_neg c_46])
        refine ew_icmp_le (t := 41) (t2 := 37) dX4_most_34 rfl rfl (fun c_34 => ?_) (fun c_34 => ?_)
        · refine ew_iload_n (t := 42) dX4_most_41 rfl rfl rfl ?_
          exact J42 (msI (s 25) SN AN SW AW k) (by simp only [if_pos c_34])
        · refine ew_iload_n (t := 38) dX4_most_37 rfl rfl rfl ?_
          refine ew_goto (t := 42) dX4_most_38 rfl ?_
          exact J42 (nI k) (by simp only [if_neg c_34])
      · refine ew_aload_n (t := 21) dX4_most_20 rfl rfl rfl ?_
        refine ew_iload_n (t := 22) dX4_most_21 rfl rfl rfl ?_
        refine ew_callV (t := 25) (As := [_]) (mc_moved mc' (bm.keep kp).1 (bm.keep kp).2.1 (bm.keep kp).2.2.1 (nI k) ((bm.keep kp).2.2.2 (nI k))) (fcX4).1 mc'.1 (lw_V q1336 q1338 qs46 q60 q1339) rfl naX4_moved dX4_most_22 rfl (Nat.le_of_ble_eq_true rfl) (Nat.le_of_ble_eq_true rfl) (Nat.le_refl _) (Nat.le_refl _) (Nat.le_of_ble_eq_true rfl) rfl (fun r h2 n2 q => ?_)
        obtain ⟨qn, rfl, q3, s2, al2, F2, FL2, q4, q5⟩ := q
        replace qn := qn.symm
        subst qn
        refine ew_goto (t := 29) dX4_most_25 rfl ?_
        refine ew_istore (t := 31) (L' := [some (.ref 33), some (.int (msI (s 25) SN AN SW AW k)), some (.int (msV (s 25) SN AN SW AW k)), some (.int (nI k)), some (.int (mvF SN AN (SW (nI k)) (AW (nI k))))]) dX4_most_29 (Nat.le_of_ble_eq_true rfl) rfl rfl ?_
        refine ew_iload (t := 33) dX4_most_31 rfl rfl ?_
        refine ew_iload_n (t := 34) dX4_most_33 rfl rfl rfl ?_
        have J42 : ∀ (j42_0 : Int32), j42_0 = ((if (mvF SN AN (SW (nI k)) (AW (nI k))) ≤ (msV (s 25) SN AN SW AW k) then (msI (s 25) SN AN SW AW k) else (nI k)) : Int32) → EW l G yX4_most cX4_most 5 (some .int) 7 0 0 (OpQ s F h n (.int (msI (s 25) SN AN SW AW 13))) 0 0 h2 n 42 [some (.ref 33), some (.int (msI (s 25) SN AN SW AW k)), some (.int (msV (s 25) SN AN SW AW k)), some (.int (nI k)), some (.int (mvF SN AN (SW (nI k)) (AW (nI k))))] [.int j42_0] := by
          intro j42_0 hj42_0
          refine ew_istore_n (t := 43) (L' := [some (.ref 33), some (.int j42_0), some (.int (msV (s 25) SN AN SW AW k)), some (.int (nI k)), some (.int (mvF SN AN (SW (nI k)) (AW (nI k))))]) dX4_most_42 rfl (Nat.le_of_ble_eq_true rfl) rfl rfl ?_
          refine ew_iload (t := 45) dX4_most_43 rfl rfl ?_
          refine ew_iload_n (t := 46) dX4_most_45 rfl rfl rfl ?_
          have J55 : ∀ (j55_0 : Int32), j55_0 = ((if (mvF SN AN (SW (nI k)) (AW (nI k))) ≤ (msV (s 25) SN AN SW AW k) then (msV (s 25) SN AN SW AW k) else (mvF SN AN (SW (nI k)) (AW (nI k)))) : Int32) → EW l G yX4_most cX4_most 5 (some .int) 7 0 0 (OpQ s F h n (.int (msI (s 25) SN AN SW AW 13))) 0 0 h2 n 55 [some (.ref 33), some (.int j42_0), some (.int (msV (s 25) SN AN SW AW k)), some (.int (nI k)), some (.int (mvF SN AN (SW (nI k)) (AW (nI k))))] [.int j55_0] := by
            intro j55_0 hj55_0
            refine ew_istore_n (t := 56) (L' := [some (.ref 33), some (.int j42_0), some (.int j55_0), some (.int (nI k)), some (.int (mvF SN AN (SW (nI k)) (AW (nI k))))]) dX4_most_55 rfl (Nat.le_of_ble_eq_true rfl) rfl rfl ?_
            refine ew_iinc (t := 59) (x := (nI k)) (v := ((nI k) + 1)) (L' := [some (.ref 33), some (.int j42_0), some (.int j55_0), some (.int ((nI k) + 1)), some (.int (mvF SN AN (SW (nI k)) (AW (nI k))))]) dX4_most_56 rfl rfl (Nat.le_of_ble_eq_true rfl) rfl rfl ?_
            refine ew_goto (t := 6) dX4_most_59 rfl ?_
            rw [nI_1]
            have ev : vlF (s 25) SN AN SW AW (nI k) = mvF SN AN (SW (nI k)) (AW (nI k)) := if_neg c_17
            rw [show j42_0 = msI (s 25) SN AN SW AW (k + 1) from by rw [hj42_0, msI, ev], show j55_0 = msV (s 25) SN AN SW AW (k + 1) from by rw [hj55_0, msV, ev]]
            exact ih (k + 1) _ _ (by omega) (fun k hk => (q3 k hk).trans (hf k hk)) ⟨s2, al2, F2, FL2, q4, kp.trans q5⟩
          refine ew_icmp_le (t := 54) (t2 := 49) dX4_most_46 rfl rfl (fun c_46 => ?_) (fun c_46 => ?_)
          · refine ew_iload_n (t := 55) dX4_most_54 rfl rfl rfl ?_
            exact J55 (msV (s 25) SN AN SW AW k) (by simp only [if_pos c_46])
          · refine ew_iload (t := 51) dX4_most_49 rfl rfl ?_
            refine ew_goto (t := 55) dX4_most_51 rfl ?_
            exact J55 (mvF SN AN (SW (nI k)) (AW (nI k))) (by simp only [if_neg c_46])
        refine ew_icmp_le (t := 41) (t2 := 37) dX4_most_34 rfl rfl (fun c_34 => ?_) (fun c_34 => ?_)
        · refine ew_iload_n (t := 42) dX4_most_41 rfl rfl rfl ?_
          exact J42 (msI (s 25) SN AN SW AW k) (by simp only [if_pos c_34])
        · refine ew_iload_n (t := 38) dX4_most_37 rfl rfl rfl ?_
          refine ew_goto (t := 42) dX4_most_38 rfl ?_
          exact J42 (nI k) (by simp only [if_neg c_34])
set_option maxHeartbeats 4000000 in
theorem mc_most {l : Launch} {G : GW} {h : AH} {n : Nat} {s : Nat → Int32} {al : Int64} {F : Nat → Nat → Int32} {FL : Nat → Int64} {a H g np nd : Nat} (mc : MC s al F FL h) {W : Int32 → Int32 → Int32 → List WY} {SN : Nat → Nat} {AN : Nat} {SW : Int32 → Nat → Nat} {AW : Int32 → Nat} (bm : BaM s F a H g np nd W SN AN SW AW) : AM l G yX4_most cX4_most 5 (some .int) 7 0 0 [.ref 33] h n (OpQ s F h n (.int (msI (s 25) SN AN SW AW 13))) := by
  refine AM.of (L := [some (.ref 33), none, none, none, none]) (by decide) (Nat.le_of_ble_eq_true rfl) rfl ?_
  refine ew_ic0 (t := 1) dX4_most_0 rfl ?_
  refine ew_istore_n (t := 2) (L' := [some (.ref 33), some (.int 0), none, none, none]) dX4_most_1 rfl (Nat.le_of_ble_eq_true rfl) rfl rfl ?_
  refine ew_icm1 (t := 3) dX4_most_2 rfl ?_
  refine ew_istore_n (t := 4) (L' := [some (.ref 33), some (.int 0), some (.int (-1)), none, none]) dX4_most_3 rfl (Nat.le_of_ble_eq_true rfl) rfl rfl ?_
  refine ew_ic0 (t := 5) dX4_most_4 rfl ?_
  refine ew_istore_n (t := 6) (L' := [some (.ref 33), some (.int 0), some (.int (-1)), some (.int 0), none]) dX4_most_5 rfl (Nat.le_of_ble_eq_true rfl) rfl rfl ?_
  exact lp_most bm 13 0 h none (by omega) (fun _ _ => rfl) ⟨s, al, F, FL, mc, keepM.refl⟩
