-- Obj fields dict_keys(['cls', 'fun', 'sname', 'refs', 'extra', 'ups'])
/-! the reference: ways, weight, may, finds, way over its cells -/
set_option maxRecDepth 100000
theorem OpQ.rows {s : Nat → Int32} {al : Int64} {F : Nat → Nat → Int32} {FL : Nat → Int64} {h : AH} {n : Nat} {v ans : Value} {lv : Int32} {R' : MR} (mc : MC s al F FL h) (e : v = ans) : OpQ s F h n ans (some v) (hovM h (upd (upd (upd s 22 0) 23 0) 24 0) al lv R') n :=
  ⟨rfl, by rw [e], hovM_fr, _, al, rowsIn F R', FL, MC_hovM mc, fun k hk => rowsIn_ne (perM_r hk), rfl, rfl, rfl, rfl⟩
/-- behind finds -/
def FindQ (s : Nat → Int32) (al : Int64) (F : Nat → Nat → Int32) (FL : Nat → Int64) (h : AH) (n H : Nat) (o : Option WY) : Option Value → AH → Nat → Prop := fun r h' n' => r = some (.int (b2i o.isSome)) ∧ n' = n ∧ frM h h' ∧ ∃ s' F', MC s' al F' FL h' ∧ (∀ k, ¬ (44 ≤ k ∧ k ≤ 51) → F' k = F k) ∧ (∀ j, j ≠ 21 → j ≠ 22 → j ≠ 23 → j ≠ 24 → s' j = s j) ∧ ∀ w, o = some w → lfM H F' w
theorem lfM_in {H : Nat} {F : Nat → Nat → Int32} {R : MR} {w : WY} (h : lfM H R w) : lfM H (rowsIn F R) w := h
def wvF (H : Nat) (w : WY) (hr : Int32) : Int32 := if ¬ hr = -1 then (if ¬ hr = -2 then (if ¬ hr = -3 then nI (w.1 hr.toNatClampNeg) else nI w.2.2.2.1) else nI w.2.2.1) else heavyI w.2.2.1 (nI w.2.2.2.1) (nI w.2.2.2.2)
def wyO (H : Nat) (o : Option WY) (hr : Int32) : Int32 := match o with
  | none => -4
  | some w => wvF H w hr
def wyF (H : Nat) (ws : List WY) (i hr : Int32) : Int32 := if i < 0 then -1 else if ¬ b2i (inL hr.toInt64 (-3) (nI H).toInt64) = 0 then wyO H ws[i.toNatClampNeg]? hr else -1
theorem in_hr {H : Nat} {hr : Int32} (hH : H ≤ 6) (h : ¬ b2i (inL hr.toInt64 (-3) (nI H).toInt64) = 0) (h1 : ¬ hr = -1) (h2 : ¬ hr = -2) (h3 : ¬ hr = -3) : ∃ j, j ≤ H ∧ hr = nI j := by
  have h5 := b2i_1.mp h
  rw [show inL hr.toInt64 (-3) (nI H).toInt64 = inI hr (-3) (nI H) from inL_I hr (-3) (nI H), inI_iff] at h5
  have h6 : ¬ hr < 0 := by
    have a1 := h5.1
    have e : ∀ z : Int32, -3 ≤ z → z < 0 → z = -1 ∨ z = -2 ∨ z = -3 := by
      intro z hz1 hz2
      have b1 := Int32.le_iff_toInt_le.mp hz1
      have b2 := Int32.lt_iff_toInt_lt.mp hz2
      have c1 : (-3 : Int32).toInt = -3 := by decide
      have c2 : (0 : Int32).toInt = 0 := by decide
      rw [c1] at b1
      rw [c2] at b2
      have c3 : (-1 : Int32).toInt = -1 := by decide
      have c4 : (-2 : Int32).toInt = -2 := by decide
      rcases (show z.toInt = -1 ∨ z.toInt = -2 ∨ z.toInt = -3 by omega) with q | q | q
      · exact Or.inl (Int32.toInt_inj.mp (q.trans c3.symm))
      · exact Or.inr (Or.inl (Int32.toInt_inj.mp (q.trans c4.symm)))
      · exact Or.inr (Or.inr (Int32.toInt_inj.mp (q.trans c1.symm)))
    intro q
    rcases e hr (Int32.not_lt.mp (fun q => absurd (Int32.not_lt.mpr h5.1) (fun z => z q))) q with r | r | r
    · exact h1 r
    · exact h2 r
    · exact h3 r
  obtain ⟨j, hj, rfl⟩ := nI_of h6
  exact ⟨j, (nI_leI hj (by omega)).mp (Int32.not_lt.mp (fun q => absurd h5.2 (fun z => absurd q (Int32.not_lt.mpr z)))), rfl⟩

theorem mc_ways {l : Launch} {G : GW} {h : AH} {n : Nat} {s : Nat → Int32} {al : Int64} {F : Nat → Nat → Int32} {FL : Nat → Int64} {a H g np nd : Nat} (mc : MC s al F FL h) (mk : MKc s F a H g np nd) {ws : List WY} (hE : ∀ R, EnM (F 34) (F 35) (F 36) 0 0 0 a H ws 0 (begR (F 34 1) R)) : AM l G yX4_ways cX4_ways 2 (some .int) 4 0 0 [.ref 33] h n (OpQ s F h n (.int (nI ws.length))) := by
  refine AM.post ?_ (am_ways mc.1 (mc.cf mk) mc.rows mk.2.2.1 (hE F))
  rintro r h' n' ⟨rfl, rfl, lv, R', rfl⟩
  exact OpQ.rows mc rfl
theorem mc_weight {l : Launch} {G : GW} {h : AH} {n : Nat} {s : Nat → Int32} {al : Int64} {F : Nat → Nat → Int32} {FL : Nat → Int64} {a H g np nd : Nat} (mc : MC s al F FL h) (mk : MKc s F a H g np nd) {ws : List WY} (hE : ∀ R, EnM (F 34) (F 35) (F 36) 0 0 0 a H ws 0 (begR (F 34 1) R)) : AM l G yX4_weight cX4_weight 3 (some .long) 4 0 0 [.ref 33] h n (OpQ s F h n (.long (wsum ws))) := by
  refine AM.post ?_ (am_weight mc.1 (mc.cf mk) mc.rows mk.2.2.1 (hE F))
  rintro r h' n' ⟨rfl, rfl, lv, R', rfl⟩
  exact OpQ.rows mc rfl
def myF (H : Nat) (ws : List WY) (hh row : Int32) : Int32 := if inL hh.toInt64 0 (nI H).toInt64 = true ∧ inL row.toInt64 0 9 = true then mbits hh.toNatClampNeg row ws 0 else -1
theorem mc_may {l : Launch} {G : GW} {h : AH} {n : Nat} {s : Nat → Int32} {al : Int64} {F : Nat → Nat → Int32} {FL : Nat → Int64} {a H g np nd : Nat} (mc : MC s al F FL h) (mk : MKc s F a H g np nd) {ws : List WY} (hE : ∀ R, EnM (F 34) (F 35) (F 36) 0 0 0 a H ws 0 (begR (F 34 1) R)) (hh row : Int32) : AM l G yX4_may cX4_may 4 (some .int) 4 0 0 [.ref 33, .int hh, .int row] h n (OpQ s F h n (.int (myF H ws hh row))) := by
  refine AM.post ?_ (am_may mc.1 (mc.cf mk) mc.rows mk.2.2.1 (hE F) hh row)
  rintro r h' n' (⟨e, rfl, rfl, rfl⟩ | ⟨hr, h1, rfl, h3, rfl, rfl, lv, R', rfl⟩)
  · refine OpQ.same mc (congrArg Value.int ?_)
    unfold myF
    rw [if_neg]
    rintro ⟨e1, e2⟩
    rcases e with e | e
    · rw [e] at e1; cases e1
    · rw [e] at e2; cases e2
  · refine OpQ.rows mc (congrArg Value.int ?_)
    have hH6 := mk.2.2.2.2.2.1
    unfold myF
    rw [if_pos, nI_clamp (by omega)]
    refine ⟨?_, h3⟩
    rw [show inL (nI hr).toInt64 0 (nI H).toInt64 = inI (nI hr) 0 (nI H) from inL_I (nI hr) 0 (nI H), inI_iff]
    exact ⟨nI_le (a := 0) (by omega) (by omega), nI_le h1 (by omega)⟩
theorem mc_finds {l : Launch} {G : GW} {h : AH} {n : Nat} {s : Nat → Int32} {al : Int64} {F : Nat → Nat → Int32} {FL : Nat → Int64} {a H g np nd : Nat} (mc : MC s al F FL h) (mk : MKc s F a H g np nd) {ws : List WY} (hE : ∀ R, EnM (F 34) (F 35) (F 36) 0 0 0 a H ws 0 (begR (F 34 1) R)) {ii : Nat} (hii : ii < 2 ^ 31) : AM l G yX4_finds cX4_finds 4 (some .boolean) 4 0 0 [.ref 33, .int (nI ii)] h n (FindQ s al F FL h n H ws[ii]?) := by
  refine AM.post ?_ (am_finds mc.1 (mc.cf mk) mc.rows mk.2.2.1 (hE F) hii)
  rintro r h' n' ⟨rfl, (⟨e, rfl, lv, R', rfl⟩ | ⟨w, R', e, rfl, hl, rfl⟩)⟩
  · refine ⟨by rw [e]; rfl, rfl, hovM_fr, _, rowsIn F R', MC_hovM mc, fun k hk => rowsIn_ne hk, fun j h1 h2 h3 h4 => ?_, fun w q => by rw [e] at q; cases q⟩
    rw [pk_un h1, pk_un h4, pk_un h3, pk_un h2]
  · refine ⟨by rw [e]; rfl, rfl, hovM_fr, _, rowsIn F R', MC_hovM mc, fun k hk => rowsIn_ne hk, fun j h1 h2 h3 h4 => ?_, fun w2 q => by rw [e] at q; cases q; exact lfM_in hl⟩
    rw [pk_un h1, pk_un h4, pk_un h3, pk_un h2]
theorem OpQ.fnd {s s' : Nat → Int32} {al' : Int64} {F F' : Nat → Nat → Int32} {FL' : Nat → Int64} {h h' : AH} {n : Nat} {v ans : Value} (q3 : frM h h') (q4 : MC s' al' F' FL' h') (q5 : ∀ k, ¬ (44 ≤ k ∧ k ≤ 51) → F' k = F k) (q6 : ∀ j, j ≠ 21 → j ≠ 22 → j ≠ 23 → j ≠ 24 → s' j = s j) (e : v = ans) : OpQ s F h n ans (some v) h' n :=
  OpQ.end q3 q4 q5 (fun j h1 h2 h3 h4 _ _ => q6 j h1 h2 h3 h4) e
set_option maxHeartbeats 4000000 in
theorem mc_way {l : Launch} {G : GW} {h : AH} {n : Nat} {s : Nat → Int32} {al : Int64} {F : Nat → Nat → Int32} {FL : Nat → Int64} {a H g np nd : Nat} (mc : MC s al F FL h) (mk : MKc s F a H g np nd) {ws : List WY} (hE : ∀ R, EnM (F 34) (F 35) (F 36) 0 0 0 a H ws 0 (begR (F 34 1) R)) (i hr : Int32) : AM l G yX4_way cX4_way 3 (some .int) 5 0 0 [.ref 33, .int i, .int hr] h n (OpQ s F h n (.int (wyF H ws i hr))) := by
  refine AM.of (L := [some (.ref 33), some (.int i), some (.int hr)]) (by decide) (Nat.le_of_ble_eq_true rfl) rfl ?_
  refine ew_iload_n (t := 1) dX4_way_0 rfl rfl rfl ?_
  refine ew_if_lt (t := 22) (t2 := 4) dX4_way_1 rfl rfl (fun c_1 => ?_) (fun c_1 => ?_)
  · refine ew_icm1 (t := 23) dX4_way_22 rfl ?_
    exact ew_iret rfl dX4_way_23 (Nat.le_refl _) (Nat.le_refl _) (OpQ.same mc (congrArg Value.int (by unfold wyF; rw [if_pos c_1])))
  · refine ew_iload_n (t := 5) dX4_way_4 rfl rfl rfl ?_
    refine ew_i2l (t := 6) dX4_way_5 rfl ?_
    refine ew_ldc2 (t := 9) (v := (-3)) dX4_way_6 q1252 rfl ?_
    refine ew_aload_n (t := 10) dX4_way_9 rfl rfl rfl ?_
    refine ew_get (t := 13) (j := 0) (v := .ref 34) fcX4 mc.1 (Nat.le_of_ble_eq_true rfl) q1021 rfl dX4_way_10 rfl ?_
    refine ew_ic2 (t := 14) dX4_way_13 rfl ?_
    refine ew_iald (t := 15) (j := 2) (N := 8) (mI mc 34 rfl) (vpI (by decide)) (by decide) dX4_way_14 rfl ?_
    rw [mk.2.2.2.1]
    refine ew_i2l (t := 16) dX4_way_15 rfl ?_
    refine ew_callS (t := 19) (As := [_, _, _]) (am_in _ _ _) (lw_S q1153 q1154 q60 q1155) naX4_in dX4_way_16 rfl (Nat.le_of_ble_eq_true rfl) (Nat.le_of_ble_eq_true rfl) (Nat.le_refl _) (Nat.le_refl _) (Nat.le_of_ble_eq_true rfl) rfl (qi ?_)
    refine ew_if_ne (t := 24) (t2 := 22) dX4_way_19 rfl rfl (fun c_19 => ?_) (fun c_19 => ?_)
    · obtain ⟨ii, hii, rfl⟩ := nI_of c_1
      have hH6 := mk.2.2.2.2.2.1
      refine ew_aload_n (t := 25) dX4_way_24 rfl rfl rfl ?_
      refine ew_iload_n (t := 26) dX4_way_25 rfl rfl rfl ?_
      refine ew_callV (t := 29) (As := [_]) (mc_finds mc mk hE hii) (fcX4).1 mc.1 (lw_V q1253 q1255 qs39 q60 q1256) rfl naX4_finds dX4_way_26 rfl (Nat.le_of_ble_eq_true rfl) (Nat.le_of_ble_eq_true rfl) (Nat.le_refl _) (Nat.le_refl _) (Nat.le_of_ble_eq_true rfl) rfl (fun r h1 n1 q => ?_)
      obtain ⟨rfl, qn, q3, s', F', q4, q5, q6, q7⟩ := q
      replace qn := qn.symm
      subst qn
      refine ew_if_ne (t := 35) (t2 := 32) dX4_way_29 rfl rfl (fun c_29 => ?_) (fun c_29 => ?_)
      · obtain ⟨w, ew⟩ := Option.isSome_iff_exists.mp (b2i_1.mp c_29)
        have hl := q7 w ew
        refine ew_iload_n (t := 36) dX4_way_35 rfl rfl rfl ?_
        refine ew_icm1 (t := 37) dX4_way_36 rfl ?_
        refine ew_icmp_ne (t := 47) (t2 := 40) dX4_way_37 rfl rfl (fun c_37 => ?_) (fun c_37 => ?_)
        · refine ew_iload_n (t := 48) dX4_way_47 rfl rfl rfl ?_
          refine ew_bipush (t := 50) (v := (-2)) dX4_way_48 (by decide) rfl ?_
          refine ew_icmp_ne (t := 67) (t2 := 53) dX4_way_50 rfl rfl (fun c_50 => ?_) (fun c_50 => ?_)
          · refine ew_iload_n (t := 68) dX4_way_67 rfl rfl rfl ?_
            refine ew_bipush (t := 70) (v := (-3)) dX4_way_68 (by decide) rfl ?_
            refine ew_icmp_ne (t := 87) (t2 := 73) dX4_way_70 rfl rfl (fun c_70 => ?_) (fun c_70 => ?_)
            · obtain ⟨j, hj, rfl⟩ := in_hr hH6 c_19 c_37 c_50 c_70
              refine ew_aload_n (t := 88) dX4_way_87 rfl rfl rfl ?_
              refine ew_get (t := 91) (j := 14) (v := .ref 45) fcX4 q4.1 (Nat.le_of_ble_eq_true rfl) q1035 rfl dX4_way_88 rfl ?_
              refine ew_iload_n (t := 92) dX4_way_91 rfl rfl rfl ?_
              refine ew_iald (t := 93) (j := j) (N := 7) (mI q4 45 rfl) (vp_in_nI (by omega) (by omega)) (nI_clamp (by omega)) dX4_way_92 rfl ?_
              exact ew_iret rfl dX4_way_93 (Nat.le_refl _) (Nat.le_refl _) (OpQ.fnd q3 q4 q5 q6 (congrArg Value.int (by unfold wyF; rw [if_neg c_1, if_pos c_19, nI_clamp (n := ii) (by omega), ew]; show _ = wvF H w _; unfold wvF; rw [if_pos c_37, if_pos c_50, if_pos c_70, nI_clamp (n := j) (by omega), (hl.1 j hj).1])))
            · refine ew_aload_n (t := 74) dX4_way_73 rfl rfl rfl ?_
              refine ew_get (t := 77) (j := 18) (v := .ref 49) fcX4 q4.1 (Nat.le_of_ble_eq_true rfl) q1039 rfl dX4_way_74 rfl ?_
              refine ew_aload_n (t := 78) dX4_way_77 rfl rfl rfl ?_
              refine ew_get (t := 81) (j := 0) (v := .ref 34) fcX4 q4.1 (Nat.le_of_ble_eq_true rfl) q1021 rfl dX4_way_78 rfl ?_
              refine ew_ic2 (t := 82) dX4_way_81 rfl ?_
              refine ew_iald (t := 83) (j := 2) (N := 8) (mI q4 34 rfl) (vpI (by decide)) (by decide) dX4_way_82 rfl ?_
              rw [q5 34 (by omega), mk.2.2.2.1]
              refine ew_iald (t := 84) (j := H) (N := 7) (mI q4 49 rfl) (vp_in_nI (by omega) (by omega)) (nI_clamp (by omega)) dX4_way_83 rfl ?_
              refine ew_goto (t := 93) dX4_way_84 rfl ?_
              exact ew_iret rfl dX4_way_93 (Nat.le_refl _) (Nat.le_refl _) (OpQ.fnd q3 q4 q5 q6 (congrArg Value.int (by unfold wyF; rw [if_neg c_1, if_pos c_19, nI_clamp (n := ii) (by omega), ew]; show _ = wvF H w _; unfold wvF; rw [if_pos c_37, if_pos c_50, if_neg (not_not_intro c_70), hl.2.2.2.2.2.1])))
          · refine ew_aload_n (t := 54) dX4_way_53 rfl rfl rfl ?_
            refine ew_get (t := 57) (j := 17) (v := .ref 48) fcX4 q4.1 (Nat.le_of_ble_eq_true rfl) q1038 rfl dX4_way_54 rfl ?_
            refine ew_aload_n (t := 58) dX4_way_57 rfl rfl rfl ?_
            refine ew_get (t := 61) (j := 0) (v := .ref 34) fcX4 q4.1 (Nat.le_of_ble_eq_true rfl) q1021 rfl dX4_way_58 rfl ?_
            refine ew_ic2 (t := 62) dX4_way_61 rfl ?_
            refine ew_iald (t := 63) (j := 2) (N := 8) (mI q4 34 rfl) (vpI (by decide)) (by decide) dX4_way_62 rfl ?_
            rw [q5 34 (by omega), mk.2.2.2.1]
            refine ew_iald (t := 64) (j := H) (N := 7) (mI q4 48 rfl) (vp_in_nI (by omega) (by omega)) (nI_clamp (by omega)) dX4_way_63 rfl ?_
            refine ew_goto (t := 93) dX4_way_64 rfl ?_
            exact ew_iret rfl dX4_way_93 (Nat.le_refl _) (Nat.le_refl _) (OpQ.fnd q3 q4 q5 q6 (congrArg Value.int (by unfold wyF; rw [if_neg c_1, if_pos c_19, nI_clamp (n := ii) (by omega), ew]; show _ = wvF H w _; unfold wvF; rw [if_pos c_37, if_neg (not_not_intro c_50), hl.2.2.2.1])))
        · refine ew_aload_n (t := 41) dX4_way_40 rfl rfl rfl ?_
          refine ew_callV (t := 44) (As := []) (am_heavy (h := h1) (TA := F' 48) (SA := F' 49) (RA := F' 51) q4.1 (mI q4 34 rfl) (mI q4 48 rfl) (mI q4 49 rfl) (mI q4 51 rfl) (by rw [q5 34 (by omega)]; exact mk.2.2.2.1) (by omega) hl.2.2.2.2.1 hl.2.2.2.1) (fcX4).1 q4.1 (lw_V q1244 q1246 qs38 q60 q1247) rfl naX4_heavy dX4_way_41 rfl (Nat.le_of_ble_eq_true rfl) (Nat.le_of_ble_eq_true rfl) (Nat.le_refl _) (Nat.le_refl _) (Nat.le_of_ble_eq_true rfl) rfl (qi ?_)
          refine ew_goto (t := 93) dX4_way_44 rfl ?_
          exact ew_iret rfl dX4_way_93 (Nat.le_refl _) (Nat.le_refl _) (OpQ.fnd q3 q4 q5 q6 (congrArg Value.int (by unfold wyF; rw [if_neg c_1, if_pos c_19, nI_clamp (n := ii) (by omega), ew]; show _ = wvF H w _; unfold wvF; rw [if_neg (not_not_intro c_37), hl.2.2.2.2.2.1, hl.2.2.2.2.2.2.2.1])))
      · refine ew_bipush (t := 34) (v := (-4)) dX4_way_32 (by decide) rfl ?_
        exact ew_iret rfl dX4_way_34 (Nat.le_refl _) (Nat.le_refl _) (OpQ.fnd q3 q4 q5 q6 (congrArg Value.int (by unfold wyF; rw [if_neg c_1, if_pos c_19, nI_clamp (n := ii) (by omega), show ws[ii]? = none from Option.isSome_eq_false_iff.mp (b2i_0.mp c_29) |> Option.isNone_iff_eq_none.mp]; rfl)))
    · refine ew_icm1 (t := 23) dX4_way_22 rfl ?_
      exact ew_iret rfl dX4_way_23 (Nat.le_refl _) (Nat.le_refl _) (OpQ.same mc (congrArg Value.int (by unfold wyF; rw [if_neg c_1, if_neg (not_not_intro c_19)])))
