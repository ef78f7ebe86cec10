/-! the reference: odds, where -/
set_option maxRecDepth 100000
/-- arrays that hold what was told (the others are scratch) -/
def perM (k : Nat) : Bool := match k with
  | 34 => true | 35 => true | 36 => true | 37 => true | 38 => true | 39 => true | 40 => true | 52 => true | 53 => true | 54 => true | 58 => true | 59 => true | 60 => true | 61 => true | _ => false
theorem perM_r {k : Nat} (h : perM k = true) : ¬ (44 ≤ k ∧ k ≤ 51) := by
  intro hk
  have := show ∀ k, k < 52 → 44 ≤ k → perM k = false by decide
  rw [this k (by omega) hk.1] at h
  cases h
def keepM (s : Nat → Int32) (F : Nat → Nat → Int32) (s' : Nat → Int32) (F' : Nat → Nat → Int32) : Prop := (∀ k, perM k = true → F' k = F k) ∧ s' 7 = s 7 ∧ s' 25 = s 25 ∧ s' 27 = s 27 ∧ s' 37 = s 37
/-- an answer, and what was told stays -/
def OpQ (s : Nat → Int32) (F : Nat → Nat → Int32) (h : AH) (n : Nat) (ans : Value) : Option Value → AH → Nat → Prop := fun r h' n' => n' = n ∧ r = some ans ∧ frM h h' ∧ ∃ s' al' F' FL', MC s' al' F' FL' h' ∧ keepM s F s' F'
theorem OpQ.same {s : Nat → Int32} {al : Int64} {F : Nat → Nat → Int32} {FL : Nat → Int64} {h : AH} {n : Nat} {v ans : Value} (mc : MC s al F FL h) (e : v = ans) : OpQ s F h n ans (some v) h n := ⟨rfl, by rw [e], fun _ _ => rfl, s, al, F, FL, mc, fun _ _ => rfl, rfl, rfl, rfl, rfl⟩
theorem OpQ.end {s s' : Nat → Int32} {al' : Int64} {F F' : Nat → Nat → Int32} {FL' : Nat → Int64} {h h' : AH} {n : Nat} {v ans : Value} (q3 : frM h h') (q4 : MC s' al' F' FL' h') (q5 : ∀ k, ¬ (44 ≤ k ∧ k ≤ 51) → F' k = F k) (q6 : ∀ j, j ≠ 21 → j ≠ 22 → j ≠ 23 → j ≠ 24 → j ≠ 32 → j ≠ 33 → s' j = s j) (e : v = ans) : OpQ s F h n ans (some v) h' n :=
  ⟨rfl, by rw [e], q3, s', al', F', FL', q4, fun k hk => q5 k (perM_r hk), q6 7 (by decide) (by decide) (by decide) (by decide) (by decide) (by decide), q6 25 (by decide) (by decide) (by decide) (by decide) (by decide) (by decide), q6 27 (by decide) (by decide) (by decide) (by decide) (by decide) (by decide), q6 37 (by decide) (by decide) (by decide) (by decide) (by decide) (by decide)⟩
/-- sums and all of the ways ws as whole numbers -/
def SumN (F : Nat → Nat → Int32) (noP noD : Int32) (H g np nd : Nat) (ws : List WY) (SN : Nat → Nat) (AN : Nat) : Prop := (∀ j, j < 100 → suF F noP noD H g np nd ws j = lN (SN j) ∧ SN j < 2 ^ 50) ∧ alF F noP noD H g np nd ws = lN AN ∧ AN < 2 ^ 50
def odF (SN : Nat → Nat) (AN : Nat) (c part : Int32) : Int64 := if b2i (inI c 0 99) = 0 then -1 else if b2i (inL part.toInt64 0 1) = 0 then -1 else if AN = 0 then -4 else lowF (SN c.toNatClampNeg) AN part
theorem in99 {c : Int32} (h : ¬ b2i (inI c 0 99) = 0) : ∃ j : Nat, j < 100 ∧ c = nI j := by
  have h2 := inI_iff.mp (b2i_1.mp h)
  obtain ⟨j, h3, h4⟩ := nI_of2 (M := 99) (n := 99) (by decide) (Int32.not_lt.mpr h2.1) h2.2
  exact ⟨j, by omega, h4⟩
set_option maxHeartbeats 4000000 in
theorem mc_odds {l : Launch} {G : GW} {h : AH} {n : Nat} {s : Nat → Int32} {al : Int64} {F : Nat → Nat → Int32} {FL : Nat → Int64} {a H g np nd : Nat} (mc : MC s al F FL h) (mk : MKc s F a H g np nd) {ws : List WY} (hE : ∀ R, EnM (F 34) (F 35) (F 36) 0 0 0 a H ws 0 (begR (F 34 1) R)) {SN : Nat → Nat} {AN : Nat} (hS : SumN F 0 0 H g np nd ws SN AN) (c part : Int32) : AM l G yX4_odds cX4_odds 3 (some .long) 6 0 0 [.ref 33, .int c, .int part] h n (OpQ s F h n (.long (odF SN AN c part))) := by
  refine AM.of (L := [some (.ref 33), some (.int c), some (.int part)]) (by decide) (Nat.le_of_ble_eq_true rfl) rfl ?_
  refine ew_iload_n (t := 1) dX4_odds_0 rfl rfl rfl ?_
  refine ew_callS (t := 4) (As := [_]) (am_isCell  _) (lw_S q1160 q1161 q60 q1162) naX4_isCell dX4_odds_1 rfl (Nat.le_of_ble_eq_true rfl) (Nat.le_of_ble_eq_true rfl) (Nat.le_refl _) (Nat.le_refl _) (Nat.le_of_ble_eq_true rfl) rfl (qi ?_)
  refine ew_if_eq (t := 17) (t2 := 7) dX4_odds_4 rfl rfl (fun c_4 => ?_) (fun c_4 => ?_)
  · refine ew_ldc2 (t := 20) (v := (-1)) dX4_odds_17 q1173 rfl ?_
    exact ew_lret rfl dX4_odds_20 (Nat.le_refl _) (Nat.le_refl _) (OpQ.same mc (congrArg Value.long (by unfold odF; rw [if_pos c_4])))
  · refine ew_iload_n (t := 8) dX4_odds_7 rfl rfl rfl ?_
    refine ew_i2l (t := 9) dX4_odds_8 rfl ?_
    refine ew_lc0 (t := 10) dX4_odds_9 rfl ?_
    refine ew_lc1 (t := 11) dX4_odds_10 rfl ?_
    refine ew_callS (t := 14) (As := [_, _, _]) (am_in _ _ _) (lw_S q1153 q1154 q60 q1155) naX4_in dX4_odds_11 rfl (Nat.le_of_ble_eq_true rfl) (Nat.le_of_ble_eq_true rfl) (Nat.le_refl _) (Nat.le_refl _) (Nat.le_of_ble_eq_true rfl) rfl (qi ?_)
    refine ew_if_ne (t := 21) (t2 := 17) dX4_odds_14 rfl rfl (fun c_14 => ?_) (fun c_14 => ?_)
    · obtain ⟨j, hj, rfl⟩ := in99 c_4
      refine ew_aload_n (t := 22) dX4_odds_21 rfl rfl rfl ?_
      refine ew_callV (t := 25) (As := []) (mc_endsAsTold mc mk hE) (fcX4).1 mc.1 (lw_V q1306 q1308 qs43 q60 q1309) rfl naX4_endsAsTold dX4_odds_22 rfl (Nat.le_of_ble_eq_true rfl) (Nat.le_of_ble_eq_true rfl) (Nat.le_refl _) (Nat.le_refl _) (Nat.le_of_ble_eq_true rfl) rfl (fun r h1 n1 q => ?_)
      obtain ⟨rfl, rfl, q3, s', F', q4, q5, q6⟩ := q
      refine ew_aload_n (t := 26) dX4_odds_25 rfl rfl rfl ?_
      refine ew_get (t := 29) (j := 31) (v := .long (alF F 0 0 H g np nd ws)) fcX4 q4.1 (Nat.le_of_ble_eq_true rfl) q1052 rfl dX4_odds_26 rfl ?_
      rw [hS.2.1]
      refine ew_lc0 (t := 30) dX4_odds_29 rfl ?_
      refine ew_lcmp_ne (t1 := 31) (t := 40) (t2 := 34) dX4_odds_30 rfl dX4_odds_31 rfl rfl (fun c_30 => ?_) (fun c_30 => ?_)
      · refine ew_aload_n (t := 41) dX4_odds_40 rfl rfl rfl ?_
        refine ew_get (t := 44) (j := 30) (v := .ref 55) fcX4 q4.1 (Nat.le_of_ble_eq_true rfl) q1051 rfl dX4_odds_41 rfl ?_
        refine ew_iload_n (t := 45) dX4_odds_44 rfl rfl rfl ?_
        refine ew_lald (t := 46) (j := j) (N := 100) q4.2.1 (vp_in_nI hj (by omega)) (nI_clamp (by omega)) dX4_odds_45 rfl ?_
        rw [(hS.1 j hj).1]
        refine ew_aload_n (t := 47) dX4_odds_46 rfl rfl rfl ?_
        refine ew_get (t := 50) (j := 31) (v := .long (alF F 0 0 H g np nd ws)) fcX4 q4.1 (Nat.le_of_ble_eq_true rfl) q1052 rfl dX4_odds_47 rfl ?_
        rw [hS.2.1]
        refine ew_iload_n (t := 51) dX4_odds_50 rfl rfl rfl ?_
        have hA0 : 0 < AN := Nat.pos_of_ne_zero (fun e => c_30 (by rw [e]; rfl))
        refine ew_callS (t := 54) (As := [_, _, _]) (am_lowest (h := h1) hA0 (by have := (hS.1 j hj).2; omega) (by have := hS.2.2; omega)) (lw_S q1315 q1316 q60 q1317) naX4_lowest dX4_odds_51 rfl (Nat.le_of_ble_eq_true rfl) (Nat.le_of_ble_eq_true rfl) (Nat.le_refl _) (Nat.le_refl _) (Nat.le_of_ble_eq_true rfl) rfl (ql ?_)
        exact ew_lret rfl dX4_odds_54 (Nat.le_refl _) (Nat.le_refl _) (OpQ.end q3 q4 q5 q6 (congrArg Value.long (by unfold odF; rw [if_neg c_4, if_neg c_14, if_neg (fun e => c_30 (by rw [e]; rfl)), nI_clamp (n := j) (by omega)])))
      · refine ew_ldc2 (t := 37) (v := (-4)) dX4_odds_34 q1314 rfl ?_
        refine ew_goto (t := 54) dX4_odds_37 rfl ?_
        exact ew_lret rfl dX4_odds_54 (Nat.le_refl _) (Nat.le_refl _) (OpQ.end q3 q4 q5 q6 (congrArg Value.long (by unfold odF; rw [if_neg c_4, if_neg c_14, if_pos ((pk_lEQ (b := 0) (by have := hS.2.2; omega) (by omega)).mp c_30)])))
    · refine ew_ldc2 (t := 20) (v := (-1)) dX4_odds_17 q1173 rfl ?_
      exact ew_lret rfl dX4_odds_20 (Nat.le_refl _) (Nat.le_refl _) (OpQ.same mc (congrArg Value.long (by unfold odF; rw [if_neg c_4, if_pos c_14])))
def whB (SN : Nat → Nat) (row : Nat) : Nat → Int32
  | 0 => 0
  | k + 1 => whB SN row k ||| (if lN (SN (10 * row + k)) ≤ 0 then 0 else (1 : Int32) <<< (nI k &&& 31))
def whF (SN : Nat → Nat) (row : Int32) : Int32 := if b2i (inL row.toInt64 0 9) = 0 then -1 else whB SN row.toNatClampNeg 10
theorem in9 {c : Int32} (h : ¬ b2i (inL c.toInt64 0 9) = 0) : ∃ j : Nat, j < 10 ∧ c = nI j := by
  have h2 := b2i_1.mp h
  rw [show inL c.toInt64 0 9 = inI c 0 9 from inL_I c 0 9, inI_iff] at h2
  obtain ⟨j, h3, h4⟩ := nI_of2 (M := 9) (n := 9) (by decide) (Int32.not_lt.mpr h2.1) h2.2
  exact ⟨j, by omega, h4⟩
set_option maxHeartbeats 4000000 in
theorem lp_where {l : Launch} {G : GW} {h : AH} {n : Nat} {s : Nat → Int32} {al : Int64} {FL : Nat → Int64} {SN : Nat → Nat} {row : Nat} {Q : Option Value → AH → Nat → Prop} (m33 : h 33 = some (MO s al)) (m55 : h 55 = some (JA 100 FL)) (hFL : ∀ j, j < 100 → FL j = lN (SN j)) (hrow : row < 10) (hq : Q (some (.int (whB SN row 10))) h n) : ∀ (f k : Nat), k + f = 10 → EW l G yX4_where cX4_where 4 (some .int) 6 0 0 Q 0 0 h n 22 [some (.ref 33), some (.int (nI row)), some (.int (whB SN row k)), some (.int (nI k))] [] := by
  intro f
  induction f with
  | zero =>
    intro k  hk
    refine ew_iload_n (t := 23) dX4_where_22 rfl rfl rfl ?_
    refine ew_bipush (t := 25) (v := 10) dX4_where_23 (by decide) rfl ?_
    refine ew_icmp_ge (t := 60) (t2 := 28) dX4_where_25 rfl rfl (fun c_25 => ?_) (fun c_25 => ?_)
    · refine ew_iload_n (t := 61) dX4_where_60 rfl rfl rfl ?_
      exact ew_iret rfl dX4_where_61 (Nat.le_refl _) (Nat.le_refl _) (by rw [show k = 10 by omega]; exact hq)
    · exact absurd (show (10 : Int32) ≤ nI k by rw [show k = 10 by omega]; decide) c_25
  | succ f ih =>
    intro k  hk
    refine ew_iload_n (t := 23) dX4_where_22 rfl rfl rfl ?_
    refine ew_bipush (t := 25) (v := 10) dX4_where_23 (by decide) rfl ?_
    refine ew_icmp_ge (t := 60) (t2 := 28) dX4_where_25 rfl rfl (fun c_25 => ?_) (fun c_25 => ?_)
    · exact absurd c_25 (nI_ge (b := 10) (by omega) (by omega))
    · refine ew_iload_n (t := 29) dX4_where_28 rfl rfl rfl ?_
      refine ew_aload_n (t := 30) dX4_where_29 rfl rfl rfl ?_
      refine ew_get (t := 33) (j := 30) (v := .ref 55) fcX4 m33 (Nat.le_of_ble_eq_true rfl) q1051 rfl dX4_where_30 rfl ?_
      refine ew_bipush (t := 35) (v := 10) dX4_where_33 (by decide) rfl ?_
      refine ew_iload_n (t := 36) dX4_where_35 rfl rfl rfl ?_
      refine ew_imul (t := 37) dX4_where_36 rfl ?_
      refine ew_iload_n (t := 38) dX4_where_37 rfl rfl rfl ?_
      refine ew_iadd (t := 39) dX4_where_38 rfl ?_
      refine ew_lald (t := 40) (j := (10 * row + k)) (N := 100) m55 (by rw [(show (10 : Int32) * nI row + nI k = nI (10 * row + k) from by rw [show (10 : Int32) = nI 10 from rfl, pk_mul, nI_add])]; exact vp_in_nI (by omega) (by omega)) (by rw [(show (10 : Int32) * nI row + nI k = nI (10 * row + k) from by rw [show (10 : Int32) = nI 10 from rfl, pk_mul, nI_add])]; exact nI_clamp (by omega)) dX4_where_39 rfl ?_
      rw [hFL (10 * row + k) (by omega)]
      refine ew_lc0 (t := 41) dX4_where_40 rfl ?_
      have J52 : ∀ (j52_0 : Int32), j52_0 = ((if (lN (SN (10 * row + k))) ≤ 0 then 0 else ((1 : Int32) <<< ((nI k) &&& 31))) : Int32) → EW l G yX4_where cX4_where 4 (some .int) 6 0 0 Q 0 0 h n 52 [some (.ref 33), some (.int (nI row)), some (.int (whB SN row k)), some (.int (nI k))] [.int j52_0, .int (whB SN row k)] := by
        intro j52_0 hj52_0
        refine ew_ior (t := 53) dX4_where_52 rfl ?_
        refine ew_istore_n (t := 54) (L' := [some (.ref 33), some (.int (nI row)), some (.int ((whB SN row k) ||| j52_0)), some (.int (nI k))]) dX4_where_53 rfl (Nat.le_of_ble_eq_true rfl) rfl rfl ?_
        refine ew_iinc (t := 57) (x := (nI k)) (v := ((nI k) + 1)) (L' := [some (.ref 33), some (.int (nI row)), some (.int ((whB SN row k) ||| j52_0)), some (.int ((nI k) + 1))]) dX4_where_54 rfl rfl (Nat.le_of_ble_eq_true rfl) rfl rfl ?_
        refine ew_goto (t := 22) dX4_where_57 rfl ?_
        rw [nI_1]
        rw [show whB SN row k ||| j52_0 = whB SN row (k + 1) from by rw [hj52_0]; rfl]
        exact ih (k + 1) (by omega)
      refine ew_lcmp_le (t1 := 42) (t := 51) (t2 := 45) dX4_where_41 rfl dX4_where_42 rfl rfl (fun c_41 => ?_) (fun c_41 => ?_)
      · refine ew_ic0 (t := 52) dX4_where_51 rfl ?_
        exact J52 0 (by simp only [if_pos c_41])
      · refine ew_ic1 (t := 46) dX4_where_45 rfl ?_
        refine ew_iload_n (t := 47) dX4_where_46 rfl rfl rfl ?_
        refine ew_ishl (t := 48) dX4_where_47 rfl ?_
        refine ew_goto (t := 52) dX4_where_48 rfl ?_
        exact J52 ((1 : Int32) <<< ((nI k) &&& 31)) (by simp only [if_neg c_41])
set_option maxHeartbeats 4000000 in
theorem mc_where {l : Launch} {G : GW} {h : AH} {n : Nat} {s : Nat → Int32} {al : Int64} {F : Nat → Nat → Int32} {FL : Nat → Int64} {a H g np nd : Nat} (mc : MC s al F FL h) (mk : MKc s F a H g np nd) {ws : List WY} (hE : ∀ R, EnM (F 34) (F 35) (F 36) 0 0 0 a H ws 0 (begR (F 34 1) R)) {SN : Nat → Nat} {AN : Nat} (hS : SumN F 0 0 H g np nd ws SN AN) (row : Int32) : AM l G yX4_where cX4_where 4 (some .int) 6 0 0 [.ref 33, .int row] h n (OpQ s F h n (.int (whF SN row))) := by
  refine AM.of (L := [some (.ref 33), some (.int row), none, none]) (by decide) (Nat.le_of_ble_eq_true rfl) rfl ?_
  refine ew_iload_n (t := 1) dX4_where_0 rfl rfl rfl ?_
  refine ew_i2l (t := 2) dX4_where_1 rfl ?_
  refine ew_lc0 (t := 3) dX4_where_2 rfl ?_
  refine ew_ldc2 (t := 6) (v := 9) dX4_where_3 q1206 rfl ?_
  refine ew_callS (t := 9) (As := [_, _, _]) (am_in _ _ _) (lw_S q1153 q1154 q60 q1155) naX4_in dX4_where_6 rfl (Nat.le_of_ble_eq_true rfl) (Nat.le_of_ble_eq_true rfl) (Nat.le_refl _) (Nat.le_refl _) (Nat.le_of_ble_eq_true rfl) rfl (qi ?_)
  refine ew_if_ne (t := 14) (t2 := 12) dX4_where_9 rfl rfl (fun c_9 => ?_) (fun c_9 => ?_)
  · obtain ⟨j, hj, rfl⟩ := in9 c_9
    refine ew_aload_n (t := 15) dX4_where_14 rfl rfl rfl ?_
    refine ew_callV (t := 18) (As := []) (mc_endsAsTold mc mk hE) (fcX4).1 mc.1 (lw_V q1306 q1308 qs43 q60 q1309) rfl naX4_endsAsTold dX4_where_15 rfl (Nat.le_of_ble_eq_true rfl) (Nat.le_of_ble_eq_true rfl) (Nat.le_refl _) (Nat.le_refl _) (Nat.le_of_ble_eq_true rfl) rfl (fun r h1 n1 q => ?_)
    obtain ⟨rfl, rfl, q3, s', F', q4, q5, q6⟩ := q
    refine ew_ic0 (t := 19) dX4_where_18 rfl ?_
    refine ew_istore_n (t := 20) (L' := [some (.ref 33), some (.int (nI j)), some (.int 0), none]) dX4_where_19 rfl (Nat.le_of_ble_eq_true rfl) rfl rfl ?_
    refine ew_ic0 (t := 21) dX4_where_20 rfl ?_
    refine ew_istore_n (t := 22) (L' := [some (.ref 33), some (.int (nI j)), some (.int 0), some (.int 0)]) dX4_where_21 rfl (Nat.le_of_ble_eq_true rfl) rfl rfl ?_
    exact lp_where (SN := SN) q4.1 q4.2.1 (fun j hj => (hS.1 j hj).1) hj (OpQ.end q3 q4 q5 q6 (congrArg Value.int (by unfold whF; rw [if_neg c_9, nI_clamp (n := j) (by omega)]))) 10 0 (by omega)
  · refine ew_icm1 (t := 13) dX4_where_12 rfl ?_
    exact ew_iret rfl dX4_where_13 (Nat.le_refl _) (Nat.le_refl _) (OpQ.same mc (congrArg Value.int (by unfold whF; rw [if_pos c_9])))
