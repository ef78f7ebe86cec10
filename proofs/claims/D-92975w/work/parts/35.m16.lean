/-! the reference's cells as a whole (MC): ends, endsAsTold over them -/
set_option maxRecDepth 100000
theorem AM.post {l : Launch} {G : GW} {y : MethodName} {cc : ByteArray} {nL : Nat} {ret : Option FieldType} {fr mc ms : Nat} {as : List Value} {h : AH} {n : Nat} {Q Q' : Option Value → AH → Nat → Prop} (hq : ∀ r h' n', Q r h' n' → Q' r h' n') (hM : AM l G y cc nL ret fr mc ms as h n Q) : AM l G y cc nL ret fr mc ms as h n Q' := by
  intro p e ha hc hk s m args below hf happ hP hK
  obtain ⟨k, o, h1, h2, h3, ⟨⟨⟨r, h', n', e1, e2, e3⟩, e4⟩, e5⟩⟩ := hM p e ha hc hk s m args below hf happ hP hK
  exact ⟨k, o, h1, h2, h3, ⟨⟨⟨r, h', n', e1, hq r h' n' e2, e3⟩, e4⟩, e5⟩⟩
/-- what the walks ask of the numbers: eye a, hours H, glides g, pieces np, drags nd -/
def MKc (s : Nat → Int32) (F : Nat → Nat → Int32) (a H g np nd : Nat) : Prop := F 34 0 = nI a ∧ a < 100 ∧ (∃ b, b < 100 ∧ F 34 1 = nI b) ∧ F 34 2 = nI H ∧ 0 < H ∧ H ≤ 6 ∧ F 34 6 = nI g ∧ g ≤ 3 ∧ s 25 = nI np ∧ np ≤ 4 ∧ s 27 = nI nd ∧ nd ≤ 4 ∧ ∀ q, q < np → ∃ N, N < 100 ∧ F 52 (5 * q + 1) = nI N
theorem MC.cf {s : Nat → Int32} {al : Int64} {F : Nat → Nat → Int32} {FL : Nat → Int64} {h : AH} {a H g np nd : Nat} (mc : MC s al F FL h) (mk : MKc s F a H g np nd) : CFM h (F 34) (F 35) (F 36) a H :=
  ⟨mI mc 34 rfl, mI mc 35 rfl, mI mc 36 rfl, mk.1, mk.2.1, mk.2.2.2.1, mk.2.2.2.2.1, mk.2.2.2.2.2.1⟩
theorem mlen_7 {k : Nat} (h1 : 44 ≤ k) (h2 : k ≤ 51) : mlen k = 7 := by
  have := show ∀ k, k < 52 → 44 ≤ k → mlen k = 7 by decide
  exact this k (by omega) h1
theorem MC.rows {s : Nat → Int32} {al : Int64} {F : Nat → Nat → Int32} {FL : Nat → Int64} {h : AH} (mc : MC s al F FL h) : rowsM h F := by
  intro k h1 h2
  have := mc.2.2 k (by omega) (by omega) (by omega)
  rw [mlen_7 h1 h2] at this
  exact this
/-- the rows of a walk put into the arrays -/
def rowsIn (F : Nat → Nat → Int32) (R : MR) : Nat → Nat → Int32 := va_up (va_up (va_up (va_up (va_up (va_up (va_up (va_up F 51 (R 51)) 50 (R 50)) 49 (R 49)) 48 (R 48)) 47 (R 47)) 46 (R 46)) 45 (R 45)) 44 (R 44)
theorem rowsIn_ne {F : Nat → Nat → Int32} {R : MR} {k : Nat} (h : ¬ (44 ≤ k ∧ k ≤ 51)) : rowsIn F R k = F k := by
  unfold rowsIn
  rw [va_up_ne _ _ (by omega), va_up_ne _ _ (by omega), va_up_ne _ _ (by omega), va_up_ne _ _ (by omega), va_up_ne _ _ (by omega), va_up_ne _ _ (by omega), va_up_ne _ _ (by omega), va_up_ne _ _ (by omega)]
theorem MC_hovM {s s' : Nat → Int32} {al al' : Int64} {F : Nat → Nat → Int32} {FL : Nat → Int64} {h : AH} {lv : Int32} {R : MR} (mc : MC s al F FL h) : MC (upd s' 21 lv) al' (rowsIn F R) FL (hovM h s' al' lv R) :=
  MC_33 (MC_I (c := 44) rfl (MC_I (c := 45) rfl (MC_I (c := 46) rfl (MC_I (c := 47) rfl (MC_I (c := 48) rfl (MC_I (c := 49) rfl (MC_I (c := 50) rfl (MC_I (c := 51) rfl (l := []) mc))))))))
theorem hovM_fr {s : Nat → Int32} {al : Int64} {h : AH} {lv : Int32} {R : MR} : ∀ k, k < 33 ∨ 63 ≤ k → hovM h s al lv R k = h k := hov_fr 33 63 rfl
/-- the reference's cells alone have changed -/
def frM (h h' : AH) : Prop := ∀ k, k < 33 ∨ 63 ≤ k → h' k = h k
/-- behind ends: sums and all; the rows have moved, nothing else -/
def EndQ (s : Nat → Int32) (F : Nat → Nat → Int32) (h : AH) (n : Nat) (SU : Nat → Int64) (AL : Int64) : Option Value → AH → Nat → Prop := fun r h' n' => r = none ∧ n' = n ∧ frM h h' ∧ ∃ s' F', MC s' AL F' SU h' ∧ (∀ k, ¬ (44 ≤ k ∧ k ≤ 51) → F' k = F k) ∧ ∀ j, j ≠ 21 → s' j = s j
def suF (F : Nat → Nat → Int32) (noP noD : Int32) (H g np nd : Nat) (ws : List WY) : Nat → Int64 := sumsK (F 52) (F 37) (F 38) (F 53) (F 54) (F 34 7) noP noD np nd (waysS H g ws (fun _ => 0)) 100
def alF (F : Nat → Nat → Int32) (noP noD : Int32) (H g np nd : Nat) (ws : List WY) : Int64 := allK (F 52) (F 37) (F 38) (F 53) (F 54) (F 34 7) noP noD np nd (waysS H g ws (fun _ => 0)) 100
theorem mc_ends {l : Launch} {G : GW} {h : AH} {n : Nat} {s : Nat → Int32} {al : Int64} {F : Nat → Nat → Int32} {FL : Nat → Int64} {a H g np nd : Nat} (mc : MC s al F FL h) (mk : MKc s F a H g np nd) {ws : List WY} (hE : ∀ R, EnM (F 34) (F 35) (F 36) (s 22) (s 23) (s 24) a H ws 0 (begR (F 34 1) R)) : AM l G yX4_ends cX4_ends 5 none 4 0 0 [.ref 33] h n (EndQ s F h n (suF F (s 32) (s 33) H g np nd ws) (alF F (s 32) (s 33) H g np nd ws)) := by
  refine AM.post ?_ (am_ends mc.1 (mc.cf mk) mc.rows mc.2.1 mk.2.2.1 mk.2.2.2.2.2.2.1 mk.2.2.2.2.2.2.2.1 (mI mc 37 rfl) (mI mc 38 rfl) (mI mc 52 rfl) (mI mc 53 rfl) (mI mc 54 rfl) mk.2.2.2.2.2.2.2.2.1 mk.2.2.2.2.2.2.2.2.2.1 mk.2.2.2.2.2.2.2.2.2.2.1 mk.2.2.2.2.2.2.2.2.2.2.2.1 mk.2.2.2.2.2.2.2.2.2.2.2.2 (hE F))
  rintro r h' n' ⟨lv, R', rfl, rfl, rfl⟩
  refine ⟨rfl, rfl, fun k hk => ?_, upd s 21 lv, rowsIn F R', MC_33 (MC_55 (l := []) (MC_hovM (MC_55 (l := []) mc))), fun k hk => rowsIn_ne hk, fun j hj => pk_un hj⟩
  rw [hov_fr 33 63 rfl k hk, hovM_fr k hk, hov_fr 33 63 rfl k hk]
/-- behind endsAsTold: beside the level the flags have moved too -/
def EndT (s : Nat → Int32) (F : Nat → Nat → Int32) (h : AH) (n : Nat) (SU : Nat → Int64) (AL : Int64) : Option Value → AH → Nat → Prop := fun r h' n' => r = none ∧ n' = n ∧ frM h h' ∧ ∃ s' F', MC s' AL F' SU h' ∧ (∀ k, ¬ (44 ≤ k ∧ k ≤ 51) → F' k = F k) ∧ ∀ j, j ≠ 21 → j ≠ 22 → j ≠ 23 → j ≠ 24 → j ≠ 32 → j ≠ 33 → s' j = s j
set_option maxHeartbeats 4000000 in
theorem mc_endsAsTold {l : Launch} {G : GW} {h : AH} {n : Nat} {s : Nat → Int32} {al : Int64} {F : Nat → Nat → Int32} {FL : Nat → Int64} {a H g np nd : Nat} (mc : MC s al F FL h) (mk : MKc s F a H g np nd) {ws : List WY} (hE : ∀ R, EnM (F 34) (F 35) (F 36) 0 0 0 a H ws 0 (begR (F 34 1) R)) : AM l G yX4_endsAsTold cX4_endsAsTold 1 none 5 0 0 [.ref 33] h n (EndT s F h n (suF F 0 0 H g np nd ws) (alF F 0 0 H g np nd ws)) := by
  refine AM.of (L := [some (.ref 33)]) (by decide) (Nat.le_of_ble_eq_true rfl) rfl ?_
  refine ew_aload_n (t := 1) dX4_endsAsTold_0 rfl rfl rfl ?_
  refine ew_callV (t := 4) (As := []) (am_asTold mc.1) (fcX4).1 mc.1 (lw_V q1211 q1213 qs33 q60 q1214) rfl naX4_asTold dX4_endsAsTold_1 rfl (Nat.le_of_ble_eq_true rfl) (Nat.le_of_ble_eq_true rfl) (Nat.le_refl _) (Nat.le_refl _) (Nat.le_of_ble_eq_true rfl) rfl (qv ?_)
  refine ew_aload_n (t := 5) dX4_endsAsTold_4 rfl rfl rfl ?_
  refine ew_ic0 (t := 6) dX4_endsAsTold_5 rfl ?_
  refine ew_put (t := 9) (j := 32) (fs' := MOf (upd (upd (upd (upd s 22 0) 23 0) 24 0) 32 0) al) (h' := (hov h [(33, OB 4 (MOf (upd (upd (upd (upd s 22 0) 23 0) 24 0) 32 0) al))])) fcX4 rfl (Nat.le_of_ble_eq_true rfl) rfl q1053 rfl rfl (Nat.le_of_ble_eq_true rfl) rfl dX4_endsAsTold_6 (hov_up rfl) rfl ?_
  refine ew_aload_n (t := 10) dX4_endsAsTold_9 rfl rfl rfl ?_
  refine ew_ic0 (t := 11) dX4_endsAsTold_10 rfl ?_
  refine ew_put (t := 14) (j := 33) (fs' := MOf (upd (upd (upd (upd (upd s 22 0) 23 0) 24 0) 32 0) 33 0) al) (h' := (hov h [(33, OB 4 (MOf (upd (upd (upd (upd (upd s 22 0) 23 0) 24 0) 32 0) 33 0) al))])) fcX4 rfl (Nat.le_of_ble_eq_true rfl) rfl q1054 (by decide) (by decide) (Nat.le_of_ble_eq_true rfl) rfl dX4_endsAsTold_11 (hov_up rfl) rfl ?_
  refine ew_aload_n (t := 15) dX4_endsAsTold_14 rfl rfl rfl ?_
  refine ew_callV (t := 18) (As := []) (mc_ends (h := hov h [(33, MO (upd (upd (upd (upd (upd s 22 0) 23 0) 24 0) 32 0) 33 0) al)]) (s := (upd (upd (upd (upd (upd s 22 0) 23 0) 24 0) 32 0) 33 0)) (MC_33 (l := []) mc) mk hE) (fcX4).1 rfl (lw_V q1310 q1312 qs44 q60 q1313) rfl naX4_ends dX4_endsAsTold_15 rfl (Nat.le_of_ble_eq_true rfl) (Nat.le_of_ble_eq_true rfl) (Nat.le_refl _) (Nat.le_refl _) (Nat.le_of_ble_eq_true rfl) rfl (fun r h1 n1 q => ?_)
  obtain ⟨rfl, rfl, q3, s', F', q4, q5, q6⟩ := q
  refine ew_vret rfl dX4_endsAsTold_18 (Nat.le_refl _) (Nat.le_refl _) ⟨rfl, rfl, fun k hk => (q3 k hk).trans (hov_fr 33 63 rfl k hk), s', F', q4, q5, fun j h1 h2 h3 h4 h5 h6 => (q6 j h1).trans ?_⟩
  show upd (upd (upd (upd (upd s 22 0) 23 0) 24 0) 32 0) 33 0 j = s j
  rw [pk_un h6, pk_un h5, pk_un h4, pk_un h3, pk_un h2]
