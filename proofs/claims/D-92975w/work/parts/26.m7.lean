/-! the reference: goesOn whole -/
set_option maxRecDepth 100000
theorem hov_sames {h : AH} : ∀ {l : List (Nat × AC)}, (∀ q ∈ l, h q.1 = some q.2) → hov h l = h
  | [], _ => rfl
  | (a, c) :: l, hl => by
    rw [hov_cons, hov_sames (fun q hq => hl q (List.mem_cons_of_mem _ hq))]
    funext k
    by_cases hk : k = a
    · subst hk; rw [va_up_self]; exact (hl (k, c) List.mem_cons_self).symm
    · rw [va_up_ne _ _ hk]
def tmM (H : Nat) (S : Option Nat × MR) : Prop := ∀ v, S.1 = some v → H ≤ v
theorem stepM_le (F34 F35 F36 : Nat → Int32) (nr nt nf : Int32) (a v : Nat) (R : MR) : ∀ v', (stepM F34 F35 F36 nr nt nf a v R).1 = some v' → v' ≤ v + 1 := by
  intro v' hv'
  unfold stepM at hv'
  split at hv'
  · split at hv'
    · cases hv'; omega
    · split at hv'
      · cases hv'; omega
      · cases hv'; omega
  · cases v with
    | zero => cases hv'
    | succ w => cases hv'; omega
set_option maxHeartbeats 4000000 in
theorem lp_goesOn {l : Launch} {G : GW} {h : AH} {n : Nat} {s : Nat → Int32} {al : Int64} {F34 F35 F36 : Nat → Int32} {a H : Nat} (m34 : h 34 = some (IA 8 F34)) (m35 : h 35 = some (IA 7 F35)) (m36 : h 36 = some (IA 7 F36)) (hF0 : F34 0 = nI a) (ha : a < 100) (hH : F34 2 = nI H) (hH6 : H ≤ 6) : ∀ (f : Nat) (S : Option Nat × MR), (∀ v, S.1 = some v → okM v S.2 ∧ v ≤ H) → tmM H (runM F34 F35 F36 (s 22) (s 23) (s 24) a H f S) → EW l G yX4_goesOn cX4_goesOn 1 (some .boolean) 3 0 0 (fun r h' n' => n' = n ∧ ∃ Z : Option Nat × MR, (runM F34 F35 F36 (s 22) (s 23) (s 24) a H f S) = Z ∧ r = some (.int (b2i Z.1.isSome)) ∧ h' = hovM h s al (lvI Z.1) Z.2) 0 0 (hovM h s al (lvI S.1) S.2) n 30 [some (.ref 33)] [] := by
  intro f
  induction f with
  | zero =>
    intro S hS ht
    obtain ⟨lv, R⟩ := S
    cases lv with
    | none => exact lp_goesOn_none m34 m35 m36 hF0 ha hH hH6 rfl
    | some v => exact lp_goesOn_some m34 m35 m36 hF0 ha hH hH6 (ht v rfl) (by have := (hS v rfl).2; omega) rfl
  | succ f ih =>
    intro S hS ht
    obtain ⟨lv, R⟩ := S
    cases lv with
    | none => exact lp_goesOn_none m34 m35 m36 hF0 ha hH hH6 rfl
    | some v =>
      obtain ⟨hok, hle⟩ := hS v rfl
      by_cases hv : v < H
      · have e : runM F34 F35 F36 (s 22) (s 23) (s 24) a H (f + 1) (some v, R) = runM F34 F35 F36 (s 22) (s 23) (s 24) a H f (stepM F34 F35 F36 (s 22) (s 23) (s 24) a v R) := by
          show (if v < H then _ else _) = _
          rw [if_pos hv]
        rw [e] at ht ⊢
        cases v with
        | zero => exact lp_goesOn_z m34 m35 m36 hF0 ha hH hH6 hv hok (fun hk => ih _ (fun v' hv' => ⟨hk v' hv', by have := stepM_le F34 F35 F36 (s 22) (s 23) (s 24) a 0 R v' hv'; omega⟩) ht)
        | succ w => exact lp_goesOn_p m34 m35 m36 hF0 ha hH hH6 (by omega) hv hok (fun hk => ih _ (fun v' hv' => ⟨hk v' hv', by have := stepM_le F34 F35 F36 (s 22) (s 23) (s 24) a (w + 1) R v' hv'; omega⟩) ht)
      · have e : runM F34 F35 F36 (s 22) (s 23) (s 24) a H (f + 1) (some v, R) = (some v, R) := by
          show (if v < H then _ else _) = _
          rw [if_neg hv]
        exact lp_goesOn_some m34 m35 m36 hF0 ha hH hH6 (by omega) (by omega) e
def begM (H v : Nat) : Nat := if v = H then v - 1 else v
theorem EW.post {l : Launch} {G : GW} {y : MethodName} {cc : ByteArray} {nL : Nat} {ret : Option FieldType} {fr mc ms : Nat} {Q Q' : Option Value → AH → Nat → Prop} {k sl : Nat} {h : AH} {n pc : Nat} {L : List (Option Value)} {st : List Value} (hq : ∀ r h' n', Q r h' n' → Q' r h' n') (kk : EW l G y cc nL ret fr mc ms Q k sl h n pc L st) : EW l G y cc nL ret fr mc ms Q' k sl h n pc L st := by
  intro p e s m args below meth c C1 H locs ls hR hS hl T hT X
  obtain ⟨t, a1, qf⟩ := kk p e s m args below meth c C1 H locs ls hR hS hl T hT X
  refine ⟨t, a1, ?_⟩
  rcases qf with ⟨o, b1, b2, ⟨⟨r, h', n', e1, ⟨e2, e5⟩, e3⟩, e4⟩, b4⟩ | ⟨ht, o, b1, b2, x, h', n', e1, e2, e3⟩
  · exact Or.inl ⟨o, b1, b2, ⟨⟨r, h', n', e1, ⟨hq r h' n' e2, e5⟩, e3⟩, e4⟩, b4⟩
  · exact Or.inr ⟨ht, o, b1, b2, x, h', n', e1, hq _ h' n' e2, e3⟩
set_option maxHeartbeats 4000000 in
theorem am_goesOn {l : Launch} {G : GW} {h : AH} {n : Nat} {R : MR} {v f : Nat} {s : Nat → Int32} {al : Int64} (m33 : h 33 = some (MO s al)) {F34 F35 F36 : Nat → Int32} {a H : Nat} (m34 : h 34 = some (IA 8 F34)) (m35 : h 35 = some (IA 7 F35)) (m36 : h 36 = some (IA 7 F36)) (hF0 : F34 0 = nI a) (ha : a < 100) (hH : F34 2 = nI H) (hH6 : H ≤ 6) (m44 : h 44 = some (IA 7 (R 44))) (m45 : h 45 = some (IA 7 (R 45))) (m46 : h 46 = some (IA 7 (R 46))) (m47 : h 47 = some (IA 7 (R 47))) (m48 : h 48 = some (IA 7 (R 48))) (m49 : h 49 = some (IA 7 (R 49))) (m50 : h 50 = some (IA 7 (R 50))) (m51 : h 51 = some (IA 7 (R 51))) (hv : s 21 = nI v) (hvH : v ≤ H) (hH0 : 0 < H) (hok : okM (begM H v) R) (ht : tmM H (runM F34 F35 F36 (s 22) (s 23) (s 24) a H f (some (begM H v), R))) : AM l G yX4_goesOn cX4_goesOn 1 (some .boolean) 3 0 0 [.ref 33] h n (fun r h' n' => n' = n ∧ r = some (.int (b2i (runM F34 F35 F36 (s 22) (s 23) (s 24) a H f (some (begM H v), R)).1.isSome)) ∧ h' = hovM h s al (lvI (runM F34 F35 F36 (s 22) (s 23) (s 24) a H f (some (begM H v), R)).1) (runM F34 F35 F36 (s 22) (s 23) (s 24) a H f (some (begM H v), R)).2) := by
  refine AM.of (L := [some (.ref 33)]) (by decide) (Nat.le_of_ble_eq_true rfl) rfl ?_
  refine ew_aload_n (t := 1) dX4_goesOn_0 rfl rfl rfl ?_
  refine ew_aload_n (t := 2) dX4_goesOn_1 rfl rfl rfl ?_
  refine ew_get (t := 5) (j := 21) (v := .int (s 21)) fcX4 m33 (Nat.le_of_ble_eq_true rfl) q1042 rfl dX4_goesOn_2 rfl ?_
  rw [hv]
  refine ew_aload_n (t := 6) dX4_goesOn_5 rfl rfl rfl ?_
  refine ew_get (t := 9) (j := 0) (v := .ref 34) fcX4 m33 (Nat.le_of_ble_eq_true rfl) q1021 rfl dX4_goesOn_6 rfl ?_
  refine ew_ic2 (t := 10) dX4_goesOn_9 rfl ?_
  refine ew_iald (t := 11) (j := 2) (N := 8) m34 (vpI (by decide)) (by decide) dX4_goesOn_10 rfl ?_
  rw [hH]
  refine ew_icmp_ne (t := 23) (t2 := 14) dX4_goesOn_11 rfl rfl (fun c_11 => ?_) (fun c_11 => ?_)
  · refine ew_aload_n (t := 24) dX4_goesOn_23 rfl rfl rfl ?_
    refine ew_get (t := 27) (j := 21) (v := .int (s 21)) fcX4 m33 (Nat.le_of_ble_eq_true rfl) q1042 rfl dX4_goesOn_24 rfl ?_
    rw [hv]
    refine ew_put (t := 30) (j := 21) (fs' := MOf (upd s 21 (nI v)) al) (h' := (hov h [(33, OB 4 (MOf (upd s 21 (nI v)) al))])) fcX4 m33 (Nat.le_of_ble_eq_true rfl) rfl q1042 rfl rfl (Nat.le_of_ble_eq_true rfl) rfl dX4_goesOn_27 (hov_up0) rfl ?_
    have hb : begM H v = v := if_neg (fun e => c_11 (by rw [e]))
    refine EW.heap (h' := hovM h s al (nI v) R) ?_ ?_
    · unfold hovM
      rw [hov_cons, hov_cons, hov_sames (l := [(44, IA 7 (R 44)), (45, IA 7 (R 45)), (46, IA 7 (R 46)), (47, IA 7 (R 47)), (48, IA 7 (R 48)), (49, IA 7 (R 49)), (50, IA 7 (R 50)), (51, IA 7 (R 51))])]
      · rfl
      · intro q hq
        simp only [List.mem_cons, List.not_mem_nil, or_false] at hq
        rcases hq with rfl | rfl | rfl | rfl | rfl | rfl | rfl | rfl
        · exact m44
        · exact m45
        · exact m46
        · exact m47
        · exact m48
        · exact m49
        · exact m50
        · exact m51
    · rw [hb] at hok ht ⊢
      exact EW.post (fun r h' n' q => by obtain ⟨q1, S, rfl, q2, q3⟩ := q; exact ⟨q1, q2, q3⟩) (lp_goesOn m34 m35 m36 hF0 ha hH hH6 f (some v, R) (fun w hw => by cases hw; exact ⟨hok, by omega⟩) ht)
  · refine ew_aload_n (t := 15) dX4_goesOn_14 rfl rfl rfl ?_
    refine ew_get (t := 18) (j := 21) (v := .int (s 21)) fcX4 m33 (Nat.le_of_ble_eq_true rfl) q1042 rfl dX4_goesOn_15 rfl ?_
    rw [hv]
    refine ew_ic1 (t := 19) dX4_goesOn_18 rfl ?_
    refine ew_isub (t := 20) dX4_goesOn_19 rfl ?_
    refine ew_goto (t := 27) dX4_goesOn_20 rfl ?_
    refine ew_put (t := 30) (j := 21) (fs' := MOf (upd s 21 ((nI v) - 1)) al) (h' := (hov h [(33, OB 4 (MOf (upd s 21 ((nI v) - 1)) al))])) fcX4 m33 (Nat.le_of_ble_eq_true rfl) rfl q1042 rfl rfl (Nat.le_of_ble_eq_true rfl) rfl dX4_goesOn_27 (hov_up0) rfl ?_
    have hvH2 : v = H := (nI_eq (by omega) (by omega)).mp c_11
    have hb : begM H v = v - 1 := if_pos hvH2
    have e9 : nI v - 1 = nI (v - 1) := by
      obtain ⟨w, rfl⟩ : ∃ w, v = w + 1 := ⟨v - 1, by omega⟩
      exact nI_pred w
    rw [e9]
    refine EW.heap (h' := hovM h s al (nI (v - 1)) R) ?_ ?_
    · unfold hovM
      rw [hov_cons, hov_cons, hov_sames (l := [(44, IA 7 (R 44)), (45, IA 7 (R 45)), (46, IA 7 (R 46)), (47, IA 7 (R 47)), (48, IA 7 (R 48)), (49, IA 7 (R 49)), (50, IA 7 (R 50)), (51, IA 7 (R 51))])]
      · rfl
      · intro q hq
        simp only [List.mem_cons, List.not_mem_nil, or_false] at hq
        rcases hq with rfl | rfl | rfl | rfl | rfl | rfl | rfl | rfl
        · exact m44
        · exact m45
        · exact m46
        · exact m47
        · exact m48
        · exact m49
        · exact m50
        · exact m51
    · rw [hb] at hok ht ⊢
      exact EW.post (fun r h' n' q => by obtain ⟨q1, S, rfl, q2, q3⟩ := q; exact ⟨q1, q2, q3⟩) (lp_goesOn m34 m35 m36 hF0 ha hH hH6 f (some (v - 1), R) (fun w hw => by cases hw; exact ⟨hok, by omega⟩) ht)
