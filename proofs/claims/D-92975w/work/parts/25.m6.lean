/-! the reference: goesOn. The rows by their cells: R 44 code, R 45 cellAt, R 46 courseAt, R 47 paceAt, R 48 turnsAt, R 49 slowAt, R 50 fuelAt, R 51 ringAt -/
set_option maxRecDepth 100000
abbrev MR : Type := Nat → Nat → Int32
def mxI (v : Nat) : Int32 := if v = 0 then 23 else 17
def attM (F34 : Nat → Int32) (R : MR) : Nat → Option (Int32 × Int32 × Int32 × Int32)
  | 0 => attI0 (F34 3) (F34 4) (R 44 0) (R 48 0) (R 49 0)
  | w + 1 => attI1 (F34 3) (F34 4) (R 44 (w + 1)) (R 46 w) (R 47 w) (R 48 (w + 1)) (R 49 (w + 1))
/-- what an hour's code brings: course, pace, turns, slowed, cell, what rings give -/
def tryM (F34 F35 F36 : Nat → Int32) (nr nt nf : Int32) (a v : Nat) (R : MR) : Option (Int32 × Int32 × Int32 × Int32 × Nat × Int32) := match attM F34 R v with
  | none => none
  | some (co, p, t, sl) => if goneF (R 45 v) co p < 0 ∨ (nf = 0 ∧ ¬ R 50 v + p * p ≤ F34 5) then none
    else some (co, p, t, sl, (goneF (R 45 v) co p).toNatClampNeg, R 51 v * ringI nr (nI (v + 1)) nt (nI (awayF a (goneF (R 45 v) co p).toNatClampNeg)) (nI (awayF a (R 45 v).toNatClampNeg)) (F36 (v + 1)) (F35 (v + 1)))
def putM (v : Nat) (R : MR) (x : Int32 × Int32 × Int32 × Int32 × Nat × Int32) : MR := fun k => match k with
  | 45 => upd (R 45) (v + 1) (nI x.2.2.2.2.1)
  | 46 => upd (R 46) v x.1
  | 47 => upd (R 47) v x.2.1
  | 48 => upd (R 48) (v + 1) x.2.2.1
  | 49 => upd (R 49) (v + 1) x.2.2.2.1
  | 50 => upd (R 50) (v + 1) (R 50 v + x.2.1 * x.2.1)
  | 51 => upd (R 51) (v + 1) x.2.2.2.2.2
  | k => R k
def cdM (R : MR) (v : Nat) (c : Int32) : MR := fun k => match k with
  | 44 => upd (R 44) v c
  | k => R k
def predM : Nat → Option Nat
  | 0 => none
  | w + 1 => some w
def stepM (F34 F35 F36 : Nat → Int32) (nr nt nf : Int32) (a v : Nat) (R : MR) : Option Nat × MR :=
  if R 44 v + 1 ≤ mxI v then (match tryM F34 F35 F36 nr nt nf a v (cdM R v (R 44 v + 1)) with
    | none => (some v, cdM R v (R 44 v + 1))
    | some x => if 0 < x.2.2.2.2.2 then (some (v + 1), cdM (putM v (cdM R v (R 44 v + 1)) x) (v + 1) (-1)) else (some v, putM v (cdM R v (R 44 v + 1)) x))
  else (predM v, cdM R v (R 44 v + 1))
def runM (F34 F35 F36 : Nat → Int32) (nr nt nf : Int32) (a H : Nat) : Nat → Option Nat × MR → Option Nat × MR
  | 0, S => S
  | f + 1, (none, R) => (none, R)
  | f + 1, (some v, R) => if v < H then runM F34 F35 F36 nr nt nf a H f (stepM F34 F35 F36 nr nt nf a v R) else (some v, R)
def lvI : Option Nat → Int32
  | none => -1
  | some v => nI v
/-- the cells of the walk -/
def hovM (h : AH) (s : Nat → Int32) (al : Int64) (lv : Int32) (R : MR) : AH := hov h [(33, MO (upd s 21 lv) al), (44, IA 7 (R 44)), (45, IA 7 (R 45)), (46, IA 7 (R 46)), (47, IA 7 (R 47)), (48, IA 7 (R 48)), (49, IA 7 (R 49)), (50, IA 7 (R 50)), (51, IA 7 (R 51))]
/-- the cells of the rows are cells, up to a level -/
def okM (v : Nat) (R : MR) : Prop := ∀ j, j ≤ v → ∃ b : Nat, b < 100 ∧ R 45 j = nI b
theorem okM_cd {v w : Nat} {R : MR} {c : Int32} (h : okM v R) : okM v (cdM R w c) := h
theorem okM_put {v : Nat} {R : MR} {x : Int32 × Int32 × Int32 × Int32 × Nat × Int32} (hx : x.2.2.2.2.1 < 100) (h : okM v R) : okM (v + 1) (putM v R x) := by
  intro j hj
  by_cases hv : j = v + 1
  · subst hv
    exact ⟨x.2.2.2.2.1, hx, pk_us⟩
  · obtain ⟨b, h1, h2⟩ := h j (by omega)
    exact ⟨b, h1, (pk_un hv).trans h2⟩
theorem okM_le {v w : Nat} {R : MR} (hw : w ≤ v) (h : okM v R) : okM w R := fun j hj => h j (by omega)
/-- goes in these words -/
theorem goes_M {h0 : AH} {n : Nat} {v a b0 : Nat} {s F34 F35 F36 : Nat → Int32} {R : MR} {r : Option Value} {h' : AH} {n' : Nat} (hb0 : b0 < 100) (hE : R 45 v = nI b0) {A : Option (Int32 × Int32 × Int32 × Int32)} (hA : A = attM F34 R v)
    (q : goesQ h0 n A v a b0 s F34 F35 F36 (R 45) (R 46) (R 47) (R 48) (R 49) (R 50) (R 51) r h' n') :
    n' = n ∧ ((tryM F34 F35 F36 (s 22) (s 23) (s 24) a v R = none ∧ r = some (.int 0) ∧ h' = h0) ∨ ∃ x, tryM F34 F35 F36 (s 22) (s 23) (s 24) a v R = some x ∧ x.2.2.2.2.1 < 100 ∧ r = some (.int (b2i (decide (0 < x.2.2.2.2.2)))) ∧
      h' = hov h0 [(46, IA 7 (putM v R x 46)), (47, IA 7 (putM v R x 47)), (45, IA 7 (putM v R x 45)), (48, IA 7 (putM v R x 48)), (49, IA 7 (putM v R x 49)), (50, IA 7 (putM v R x 50)), (51, IA 7 (putM v R x 51))]) := by
  obtain ⟨hn, q⟩ := q
  refine ⟨hn, ?_⟩
  unfold tryM
  rw [← hA]
  cases A with
  | none => exact Or.inl ⟨rfl, q⟩
  | some z =>
    obtain ⟨co, p, t, sl⟩ := z
    dsimp only at q ⊢
    rw [hE]
    by_cases hc : goneF (nI b0) co p < 0 ∨ (s 24 = 0 ∧ ¬ R 50 v + p * p ≤ F34 5)
    · rw [if_pos hc] at q
      rw [if_pos hc]
      exact Or.inl ⟨rfl, q⟩
    · rw [if_neg hc] at q
      rw [if_neg hc]
      obtain ⟨b, hb, eb, q1, q2⟩ := q
      have e1 : (goneF (nI b0) co p).toNatClampNeg = b := by rw [eb]; exact nI_clamp (by omega)
      have e2 : (nI b0).toNatClampNeg = b0 := nI_clamp (by omega)
      rw [e1, e2]
      exact Or.inr ⟨_, rfl, hb, q1, q2⟩
set_option maxHeartbeats 4000000 in
theorem lp_goesOn_none {l : Launch} {G : GW} {h : AH} {n : Nat} {s : Nat → Int32} {al : Int64} {F34 F35 F36 : Nat → Int32} {a H : Nat} (m34 : h 34 = some (IA 8 F34)) (m35 : h 35 = some (IA 7 F35)) (m36 : h 36 = some (IA 7 F36)) (hF0 : F34 0 = nI a) (ha : a < 100) (hH : F34 2 = nI H) (hH6 : H ≤ 6)  {R : MR} {Sf : Option Nat × MR} (hS : Sf = (none, R)) : EW l G yX4_goesOn cX4_goesOn 1 (some .boolean) 3 0 0 (fun r h' n' => n' = n ∧ ∃ Z : Option Nat × MR, Sf = Z ∧ r = some (.int (b2i Z.1.isSome)) ∧ h' = hovM h s al (lvI Z.1) Z.2) 0 0 (hov h [(33, OB 4 (MOf (upd s 21 (-1)) al)), (44, IA 7 (R 44)), (45, IA 7 (R 45)), (46, IA 7 (R 46)), (47, IA 7 (R 47)), (48, IA 7 (R 48)), (49, IA 7 (R 49)), (50, IA 7 (R 50)), (51, IA 7 (R 51))]) n 30 [some (.ref 33)] [] := by
  refine ew_aload_n (t := 31) dX4_goesOn_30 rfl rfl rfl ?_
  refine ew_get (t := 34) (j := 21) (v := .int (-1)) fcX4 rfl (Nat.le_of_ble_eq_true rfl) q1042 rfl dX4_goesOn_31 rfl ?_
  refine ew_if_lt (t := 132) (t2 := 37) dX4_goesOn_34 rfl rfl (fun c_34 => ?_) (fun c_34 => ?_)
  · refine ew_aload_n (t := 133) dX4_goesOn_132 rfl rfl rfl ?_
    refine ew_get (t := 136) (j := 21) (v := .int (-1)) fcX4 rfl (Nat.le_of_ble_eq_true rfl) q1042 rfl dX4_goesOn_133 rfl ?_
    refine ew_if_lt (t := 143) (t2 := 139) dX4_goesOn_136 rfl rfl (fun c_136 => ?_) (fun c_136 => ?_)
    · refine ew_ic0 (t := 144) dX4_goesOn_143 rfl ?_
      exact ew_zret rfl (by decide) dX4_goesOn_144 (Nat.le_refl _) (Nat.le_refl _) ⟨rfl, _, hS, rfl, rfl⟩
    · exact absurd c_136 (by decide)
  · exact absurd c_34 (by decide)
set_option maxHeartbeats 4000000 in
theorem lp_goesOn_some {l : Launch} {G : GW} {h : AH} {n : Nat} {s : Nat → Int32} {al : Int64} {F34 F35 F36 : Nat → Int32} {a H : Nat} (m34 : h 34 = some (IA 8 F34)) (m35 : h 35 = some (IA 7 F35)) (m36 : h 36 = some (IA 7 F36)) (hF0 : F34 0 = nI a) (ha : a < 100) (hH : F34 2 = nI H) (hH6 : H ≤ 6) {v : Nat} (hv : H ≤ v) (hv7 : v < 7) {R : MR} {Sf : Option Nat × MR} (hS : Sf = (some v, R)) : EW l G yX4_goesOn cX4_goesOn 1 (some .boolean) 3 0 0 (fun r h' n' => n' = n ∧ ∃ Z : Option Nat × MR, Sf = Z ∧ r = some (.int (b2i Z.1.isSome)) ∧ h' = hovM h s al (lvI Z.1) Z.2) 0 0 (hov h [(33, OB 4 (MOf (upd s 21 (nI v)) al)), (44, IA 7 (R 44)), (45, IA 7 (R 45)), (46, IA 7 (R 46)), (47, IA 7 (R 47)), (48, IA 7 (R 48)), (49, IA 7 (R 49)), (50, IA 7 (R 50)), (51, IA 7 (R 51))]) n 30 [some (.ref 33)] [] := by
  refine ew_aload_n (t := 31) dX4_goesOn_30 rfl rfl rfl ?_
  refine ew_get (t := 34) (j := 21) (v := .int (nI v)) fcX4 rfl (Nat.le_of_ble_eq_true rfl) q1042 rfl dX4_goesOn_31 rfl ?_
  refine ew_if_lt (t := 132) (t2 := 37) dX4_goesOn_34 rfl rfl (fun c_34 => ?_) (fun c_34 => ?_)
  · exact absurd c_34 (nI_pos (by omega))
  · refine ew_aload_n (t := 38) dX4_goesOn_37 rfl rfl rfl ?_
    refine ew_get (t := 41) (j := 21) (v := .int (nI v)) fcX4 rfl (Nat.le_of_ble_eq_true rfl) q1042 rfl dX4_goesOn_38 rfl ?_
    refine ew_aload_n (t := 42) dX4_goesOn_41 rfl rfl rfl ?_
    refine ew_get (t := 45) (j := 0) (v := .ref 34) fcX4 rfl (Nat.le_of_ble_eq_true rfl) q1021 rfl dX4_goesOn_42 rfl ?_
    refine ew_ic2 (t := 46) dX4_goesOn_45 rfl ?_
    refine ew_iald (t := 47) (j := 2) (N := 8) m34 (vpI (by decide)) (by decide) dX4_goesOn_46 rfl ?_
    rw [hH]
    refine ew_icmp_ge (t := 132) (t2 := 50) dX4_goesOn_47 rfl rfl (fun c_47 => ?_) (fun c_47 => ?_)
    · refine ew_aload_n (t := 133) dX4_goesOn_132 rfl rfl rfl ?_
      refine ew_get (t := 136) (j := 21) (v := .int (nI v)) fcX4 rfl (Nat.le_of_ble_eq_true rfl) q1042 rfl dX4_goesOn_133 rfl ?_
      refine ew_if_lt (t := 143) (t2 := 139) dX4_goesOn_136 rfl rfl (fun c_136 => ?_) (fun c_136 => ?_)
      · exact absurd c_136 (nI_pos (by omega))
      · refine ew_ic1 (t := 140) dX4_goesOn_139 rfl ?_
        refine ew_goto (t := 144) dX4_goesOn_140 rfl ?_
        exact ew_zret rfl (by decide) dX4_goesOn_144 (Nat.le_refl _) (Nat.le_refl _) ⟨rfl, _, hS, rfl, rfl⟩
    · exact absurd (nI_le hv (by omega)) c_47
set_option maxHeartbeats 4000000 in
theorem lp_goesOn_z {l : Launch} {G : GW} {h : AH} {n : Nat} {s : Nat → Int32} {al : Int64} {F34 F35 F36 : Nat → Int32} {a H : Nat} (m34 : h 34 = some (IA 8 F34)) (m35 : h 35 = some (IA 7 F35)) (m36 : h 36 = some (IA 7 F36)) (hF0 : F34 0 = nI a) (ha : a < 100) (hH : F34 2 = nI H) (hH6 : H ≤ 6) {Q : Option Value → AH → Nat → Prop} (hvH : 0 < H) {R : MR} (hok : okM 0 R)
    (kk : (∀ v', (stepM F34 F35 F36 (s 22) (s 23) (s 24) a 0 R).1 = some v' → okM v' (stepM F34 F35 F36 (s 22) (s 23) (s 24) a 0 R).2) → EW l G yX4_goesOn cX4_goesOn 1 (some .boolean) 3 0 0 Q 0 0 (hovM h s al (lvI (stepM F34 F35 F36 (s 22) (s 23) (s 24) a 0 R).1) (stepM F34 F35 F36 (s 22) (s 23) (s 24) a 0 R).2) n 30 [some (.ref 33)] []) : EW l G yX4_goesOn cX4_goesOn 1 (some .boolean) 3 0 0 Q 0 0 (hov h [(33, OB 4 (MOf (upd s 21 (nI 0)) al)), (44, IA 7 (R 44)), (45, IA 7 (R 45)), (46, IA 7 (R 46)), (47, IA 7 (R 47)), (48, IA 7 (R 48)), (49, IA 7 (R 49)), (50, IA 7 (R 50)), (51, IA 7 (R 51))]) n 30 [some (.ref 33)] [] := by
  refine ew_aload_n (t := 31) dX4_goesOn_30 rfl rfl rfl ?_
  refine ew_get (t := 34) (j := 21) (v := .int (nI 0)) fcX4 rfl (Nat.le_of_ble_eq_true rfl) q1042 rfl dX4_goesOn_31 rfl ?_
  refine ew_if_lt (t := 132) (t2 := 37) dX4_goesOn_34 rfl rfl (fun c_34 => ?_) (fun c_34 => ?_)
  · exact absurd c_34 (nI_pos (by omega))
  · refine ew_aload_n (t := 38) dX4_goesOn_37 rfl rfl rfl ?_
    refine ew_get (t := 41) (j := 21) (v := .int (nI 0)) fcX4 rfl (Nat.le_of_ble_eq_true rfl) q1042 rfl dX4_goesOn_38 rfl ?_
    refine ew_aload_n (t := 42) dX4_goesOn_41 rfl rfl rfl ?_
    refine ew_get (t := 45) (j := 0) (v := .ref 34) fcX4 rfl (Nat.le_of_ble_eq_true rfl) q1021 rfl dX4_goesOn_42 rfl ?_
    refine ew_ic2 (t := 46) dX4_goesOn_45 rfl ?_
    refine ew_iald (t := 47) (j := 2) (N := 8) m34 (vpI (by decide)) (by decide) dX4_goesOn_46 rfl ?_
    rw [hH]
    refine ew_icmp_ge (t := 132) (t2 := 50) dX4_goesOn_47 rfl rfl (fun c_47 => ?_) (fun c_47 => ?_)
    · exact absurd c_47 (nI_ge (by omega) (by omega))
    · refine ew_aload_n (t := 51) dX4_goesOn_50 rfl rfl rfl ?_
      refine ew_get (t := 54) (j := 13) (v := .ref 44) fcX4 rfl (Nat.le_of_ble_eq_true rfl) q1034 rfl dX4_goesOn_51 rfl ?_
      refine ew_aload_n (t := 55) dX4_goesOn_54 rfl rfl rfl ?_
      refine ew_get (t := 58) (j := 21) (v := .int (nI 0)) fcX4 rfl (Nat.le_of_ble_eq_true rfl) q1042 rfl dX4_goesOn_55 rfl ?_
      refine ew_dup2 (t := 59) dX4_goesOn_58 rfl rfl rfl ?_
      refine ew_iald (t := 60) (j := 0) (N := 7) rfl (vp_in_nI (by omega) (by omega)) (nI_clamp (by omega)) dX4_goesOn_59 rfl ?_
      refine ew_ic1 (t := 61) dX4_goesOn_60 rfl ?_
      refine ew_iadd (t := 62) dX4_goesOn_61 rfl ?_
      refine ew_iast (t := 63) (j := 0) (N := 7) (h' := (hov h [(33, OB 4 (MOf (upd s 21 (nI 0)) al)), (44, IA 7 (upd (R 44) 0 (((R 44) 0) + 1))), (45, IA 7 (R 45)), (46, IA 7 (R 46)), (47, IA 7 (R 47)), (48, IA 7 (R 48)), (49, IA 7 (R 49)), (50, IA 7 (R 50)), (51, IA 7 (R 51))])) rfl (vp_in_nI (by omega) (by omega)) (nI_clamp (by omega)) dX4_goesOn_62 (hov_up rfl) rfl ?_
      refine ew_aload_n (t := 64) dX4_goesOn_63 rfl rfl rfl ?_
      refine ew_get (t := 67) (j := 13) (v := .ref 44) fcX4 rfl (Nat.le_of_ble_eq_true rfl) q1034 rfl dX4_goesOn_64 rfl ?_
      refine ew_aload_n (t := 68) dX4_goesOn_67 rfl rfl rfl ?_
      refine ew_get (t := 71) (j := 21) (v := .int (nI 0)) fcX4 rfl (Nat.le_of_ble_eq_true rfl) q1042 rfl dX4_goesOn_68 rfl ?_
      refine ew_iald (t := 72) (j := 0) (N := 7) rfl (vp_in_nI (by omega) (by omega)) (nI_clamp (by omega)) dX4_goesOn_71 rfl ?_
      rw [pk_us]
      refine ew_aload_n (t := 73) dX4_goesOn_72 rfl rfl rfl ?_
      refine ew_get (t := 76) (j := 21) (v := .int (nI 0)) fcX4 rfl (Nat.le_of_ble_eq_true rfl) q1042 rfl dX4_goesOn_73 rfl ?_
      refine ew_if_ne (t := 84) (t2 := 79) dX4_goesOn_76 rfl rfl (fun c_76 => ?_) (fun c_76 => ?_)
      · exact absurd rfl c_76
      · refine ew_bipush (t := 81) (v := 23) dX4_goesOn_79 (by decide) rfl ?_
        refine ew_goto (t := 86) dX4_goesOn_81 rfl ?_
        refine ew_icmp_le (t := 102) (t2 := 89) dX4_goesOn_86 rfl rfl (fun c_86 => ?_) (fun c_86 => ?_)
        · refine ew_aload_n (t := 103) dX4_goesOn_102 rfl rfl rfl ?_
          obtain ⟨b0, hb0, eb0⟩ := hok 0 (Nat.le_refl 0)
          refine ew_callV (t := 106) (As := []) (am_goes0 rfl m34 m35 m36 rfl rfl rfl rfl rfl rfl rfl rfl hF0 ha (show (R 45) 0 = nI b0 from eb0) hb0 rfl) (fcX4).1 rfl (lw_V q1223 q1225 qs36 q60 q1226) rfl naX4_goes dX4_goesOn_103 rfl (Nat.le_of_ble_eq_true rfl) (Nat.le_of_ble_eq_true rfl) (Nat.le_refl _) (Nat.le_refl _) (Nat.le_of_ble_eq_true rfl) rfl (fun r h1 n1 q => ?_)
          have q2 := goes_M (F34 := F34) (R := cdM R 0 (R 44 0 + 1)) hb0 eb0 rfl q
          clear q
          obtain ⟨hn1, q2⟩ := q2
          subst hn1
          have hmx : R 44 0 + 1 ≤ mxI 0 := by rw [show mxI 0 = 23 from rfl]; exact c_86
          rcases q2 with ⟨e1, rfl, rfl⟩ | ⟨x, e1, hx, rfl, rfl⟩
          · have e1 : tryM F34 F35 F36 (s 22) (s 23) (s 24) a 0 (cdM R 0 (R 44 0 + 1)) = none := e1
            have hst : stepM F34 F35 F36 (s 22) (s 23) (s 24) a 0 R = (some 0, cdM R 0 (R 44 0 + 1)) := by unfold stepM; rw [if_pos hmx, e1]
            refine ew_if_eq (t := 30) (t2 := 109) dX4_goesOn_106 rfl rfl (fun c_106 => ?_) (fun c_106 => absurd rfl c_106)
            rw [hst] at kk
            exact kk (fun _ hh => by cases hh; exact okM_cd hok)
          · have e1 : tryM F34 F35 F36 (s 22) (s 23) (s 24) a 0 (cdM R 0 (R 44 0 + 1)) = some x := e1
            refine EW.heap (h' := hovM h s al (nI 0) (putM 0 (cdM R 0 (R 44 0 + 1)) x)) (hov_mrg rfl) ?_
            refine ew_if_eq (t := 30) (t2 := 109) dX4_goesOn_106 rfl rfl (fun c_106 => ?_) (fun c_106 => ?_)
            · have hx0 : ¬ 0 < x.2.2.2.2.2 := of_decide_eq_false (b2i_0.mp c_106)
              have hst : stepM F34 F35 F36 (s 22) (s 23) (s 24) a 0 R = (some 0, putM 0 (cdM R 0 (R 44 0 + 1)) x) := by unfold stepM; rw [if_pos hmx, e1]; dsimp only; rw [if_neg hx0]
              rw [hst] at kk
              exact kk (fun _ hh => by cases hh; exact okM_le (by omega) (okM_put hx (okM_cd hok)))
            · have hx0 : 0 < x.2.2.2.2.2 := of_decide_eq_true (b2i_1.mp c_106)
              have hst : stepM F34 F35 F36 (s 22) (s 23) (s 24) a 0 R = (some (0 + 1), cdM (putM 0 (cdM R 0 (R 44 0 + 1)) x) (0 + 1) (-1)) := by unfold stepM; rw [if_pos hmx, e1]; dsimp only; rw [if_pos hx0]
              rw [hst] at kk
              refine ew_aload_n (t := 110) dX4_goesOn_109 rfl rfl rfl ?_
              refine ew_dup (t := 111) dX4_goesOn_110 rfl rfl ?_
              refine ew_get (t := 114) (j := 21) (v := .int (nI 0)) fcX4 rfl (Nat.le_of_ble_eq_true rfl) q1042 rfl dX4_goesOn_111 rfl ?_
              refine ew_ic1 (t := 115) dX4_goesOn_114 rfl ?_
              refine ew_iadd (t := 116) dX4_goesOn_115 rfl ?_
              refine ew_put (t := 119) (j := 21) (fs' := MOf (upd s 21 ((nI 0) + 1)) al) (h' := (hov h [(33, OB 4 (MOf (upd s 21 ((nI 0) + 1)) al)), (44, IA 7 ((putM 0 (cdM R 0 (R 44 0 + 1)) x) 44)), (45, IA 7 ((putM 0 (cdM R 0 (R 44 0 + 1)) x) 45)), (46, IA 7 ((putM 0 (cdM R 0 (R 44 0 + 1)) x) 46)), (47, IA 7 ((putM 0 (cdM R 0 (R 44 0 + 1)) x) 47)), (48, IA 7 ((putM 0 (cdM R 0 (R 44 0 + 1)) x) 48)), (49, IA 7 ((putM 0 (cdM R 0 (R 44 0 + 1)) x) 49)), (50, IA 7 ((putM 0 (cdM R 0 (R 44 0 + 1)) x) 50)), (51, IA 7 ((putM 0 (cdM R 0 (R 44 0 + 1)) x) 51))])) fcX4 rfl (Nat.le_of_ble_eq_true rfl) rfl q1042 rfl rfl (Nat.le_of_ble_eq_true rfl) rfl dX4_goesOn_116 (hov_up rfl) rfl ?_
              refine ew_aload_n (t := 120) dX4_goesOn_119 rfl rfl rfl ?_
              refine ew_get (t := 123) (j := 13) (v := .ref 44) fcX4 rfl (Nat.le_of_ble_eq_true rfl) q1034 rfl dX4_goesOn_120 rfl ?_
              refine ew_aload_n (t := 124) dX4_goesOn_123 rfl rfl rfl ?_
              refine ew_get (t := 127) (j := 21) (v := .int ((nI 0) + 1)) fcX4 rfl (Nat.le_of_ble_eq_true rfl) q1042 rfl dX4_goesOn_124 rfl ?_
              refine ew_icm1 (t := 128) dX4_goesOn_127 rfl ?_
              refine ew_iast (t := 129) (j := (0 + 1)) (N := 7) (h' := (hov h [(33, OB 4 (MOf (upd s 21 ((nI 0) + 1)) al)), (44, IA 7 (upd ((putM 0 (cdM R 0 (R 44 0 + 1)) x) 44) (0 + 1) (-1))), (45, IA 7 ((putM 0 (cdM R 0 (R 44 0 + 1)) x) 45)), (46, IA 7 ((putM 0 (cdM R 0 (R 44 0 + 1)) x) 46)), (47, IA 7 ((putM 0 (cdM R 0 (R 44 0 + 1)) x) 47)), (48, IA 7 ((putM 0 (cdM R 0 (R 44 0 + 1)) x) 48)), (49, IA 7 ((putM 0 (cdM R 0 (R 44 0 + 1)) x) 49)), (50, IA 7 ((putM 0 (cdM R 0 (R 44 0 + 1)) x) 50)), (51, IA 7 ((putM 0 (cdM R 0 (R 44 0 + 1)) x) 51))])) rfl (by rw [nI_1]; exact vp_in_nI (by omega) (by omega)) (by rw [nI_1]; exact nI_clamp (by omega)) dX4_goesOn_128 (hov_up rfl) rfl ?_
              refine ew_goto (t := 30) dX4_goesOn_129 rfl ?_
              rw [nI_1]
              exact kk (fun _ hh => by cases hh; exact okM_cd (okM_put hx (okM_cd hok)))
        · refine ew_aload_n (t := 90) dX4_goesOn_89 rfl rfl rfl ?_
          refine ew_dup (t := 91) dX4_goesOn_90 rfl rfl ?_
          refine ew_get (t := 94) (j := 21) (v := .int (nI 0)) fcX4 rfl (Nat.le_of_ble_eq_true rfl) q1042 rfl dX4_goesOn_91 rfl ?_
          refine ew_ic1 (t := 95) dX4_goesOn_94 rfl ?_
          refine ew_isub (t := 96) dX4_goesOn_95 rfl ?_
          refine ew_put (t := 99) (j := 21) (fs' := MOf (upd s 21 ((nI 0) - 1)) al) (h' := (hov h [(33, OB 4 (MOf (upd s 21 ((nI 0) - 1)) al)), (44, IA 7 (upd (R 44) 0 (((R 44) 0) + 1))), (45, IA 7 (R 45)), (46, IA 7 (R 46)), (47, IA 7 (R 47)), (48, IA 7 (R 48)), (49, IA 7 (R 49)), (50, IA 7 (R 50)), (51, IA 7 (R 51))])) fcX4 rfl (Nat.le_of_ble_eq_true rfl) rfl q1042 rfl rfl (Nat.le_of_ble_eq_true rfl) rfl dX4_goesOn_96 (hov_up rfl) rfl ?_
          refine ew_goto (t := 30) dX4_goesOn_99 rfl ?_
          have hst : stepM F34 F35 F36 (s 22) (s 23) (s 24) a 0 R = (predM 0, cdM R 0 (R 44 0 + 1)) := by unfold stepM; rw [if_neg (by rw [show mxI 0 = 23 from rfl]; exact c_86)]
          rw [hst] at kk
          exact kk (fun _ hh => by cases hh)
set_option maxHeartbeats 4000000 in
theorem lp_goesOn_p {l : Launch} {G : GW} {h : AH} {n : Nat} {s : Nat → Int32} {al : Int64} {F34 F35 F36 : Nat → Int32} {a H : Nat} (m34 : h 34 = some (IA 8 F34)) (m35 : h 35 = some (IA 7 F35)) (m36 : h 36 = some (IA 7 F36)) (hF0 : F34 0 = nI a) (ha : a < 100) (hH : F34 2 = nI H) (hH6 : H ≤ 6) {Q : Option Value → AH → Nat → Prop} {v : Nat} (hv0 : 0 < v) (hvH : v < H) {R : MR} (hok : okM v R)
    (kk : (∀ v', (stepM F34 F35 F36 (s 22) (s 23) (s 24) a v R).1 = some v' → okM v' (stepM F34 F35 F36 (s 22) (s 23) (s 24) a v R).2) → EW l G yX4_goesOn cX4_goesOn 1 (some .boolean) 3 0 0 Q 0 0 (hovM h s al (lvI (stepM F34 F35 F36 (s 22) (s 23) (s 24) a v R).1) (stepM F34 F35 F36 (s 22) (s 23) (s 24) a v R).2) n 30 [some (.ref 33)] []) : EW l G yX4_goesOn cX4_goesOn 1 (some .boolean) 3 0 0 Q 0 0 (hov h [(33, OB 4 (MOf (upd s 21 (nI v)) al)), (44, IA 7 (R 44)), (45, IA 7 (R 45)), (46, IA 7 (R 46)), (47, IA 7 (R 47)), (48, IA 7 (R 48)), (49, IA 7 (R 49)), (50, IA 7 (R 50)), (51, IA 7 (R 51))]) n 30 [some (.ref 33)] [] := by
  refine ew_aload_n (t := 31) dX4_goesOn_30 rfl rfl rfl ?_
  refine ew_get (t := 34) (j := 21) (v := .int (nI v)) fcX4 rfl (Nat.le_of_ble_eq_true rfl) q1042 rfl dX4_goesOn_31 rfl ?_
  refine ew_if_lt (t := 132) (t2 := 37) dX4_goesOn_34 rfl rfl (fun c_34 => ?_) (fun c_34 => ?_)
  · exact absurd c_34 (nI_pos (by omega))
  · refine ew_aload_n (t := 38) dX4_goesOn_37 rfl rfl rfl ?_
    refine ew_get (t := 41) (j := 21) (v := .int (nI v)) fcX4 rfl (Nat.le_of_ble_eq_true rfl) q1042 rfl dX4_goesOn_38 rfl ?_
    refine ew_aload_n (t := 42) dX4_goesOn_41 rfl rfl rfl ?_
    refine ew_get (t := 45) (j := 0) (v := .ref 34) fcX4 rfl (Nat.le_of_ble_eq_true rfl) q1021 rfl dX4_goesOn_42 rfl ?_
    refine ew_ic2 (t := 46) dX4_goesOn_45 rfl ?_
    refine ew_iald (t := 47) (j := 2) (N := 8) m34 (vpI (by decide)) (by decide) dX4_goesOn_46 rfl ?_
    rw [hH]
    refine ew_icmp_ge (t := 132) (t2 := 50) dX4_goesOn_47 rfl rfl (fun c_47 => ?_) (fun c_47 => ?_)
    · exact absurd c_47 (nI_ge (by omega) (by omega))
    · refine ew_aload_n (t := 51) dX4_goesOn_50 rfl rfl rfl ?_
      refine ew_get (t := 54) (j := 13) (v := .ref 44) fcX4 rfl (Nat.le_of_ble_eq_true rfl) q1034 rfl dX4_goesOn_51 rfl ?_
      refine ew_aload_n (t := 55) dX4_goesOn_54 rfl rfl rfl ?_
      refine ew_get (t := 58) (j := 21) (v := .int (nI v)) fcX4 rfl (Nat.le_of_ble_eq_true rfl) q1042 rfl dX4_goesOn_55 rfl ?_
      refine ew_dup2 (t := 59) dX4_goesOn_58 rfl rfl rfl ?_
      refine ew_iald (t := 60) (j := v) (N := 7) rfl (vp_in_nI (by omega) (by omega)) (nI_clamp (by omega)) dX4_goesOn_59 rfl ?_
      refine ew_ic1 (t := 61) dX4_goesOn_60 rfl ?_
      refine ew_iadd (t := 62) dX4_goesOn_61 rfl ?_
      refine ew_iast (t := 63) (j := v) (N := 7) (h' := (hov h [(33, OB 4 (MOf (upd s 21 (nI v)) al)), (44, IA 7 (upd (R 44) v (((R 44) v) + 1))), (45, IA 7 (R 45)), (46, IA 7 (R 46)), (47, IA 7 (R 47)), (48, IA 7 (R 48)), (49, IA 7 (R 49)), (50, IA 7 (R 50)), (51, IA 7 (R 51))])) rfl (vp_in_nI (by omega) (by omega)) (nI_clamp (by omega)) dX4_goesOn_62 (hov_up rfl) rfl ?_
      refine ew_aload_n (t := 64) dX4_goesOn_63 rfl rfl rfl ?_
      refine ew_get (t := 67) (j := 13) (v := .ref 44) fcX4 rfl (Nat.le_of_ble_eq_true rfl) q1034 rfl dX4_goesOn_64 rfl ?_
      refine ew_aload_n (t := 68) dX4_goesOn_67 rfl rfl rfl ?_
      refine ew_get (t := 71) (j := 21) (v := .int (nI v)) fcX4 rfl (Nat.le_of_ble_eq_true rfl) q1042 rfl dX4_goesOn_68 rfl ?_
      refine ew_iald (t := 72) (j := v) (N := 7) rfl (vp_in_nI (by omega) (by omega)) (nI_clamp (by omega)) dX4_goesOn_71 rfl ?_
      rw [pk_us]
      refine ew_aload_n (t := 73) dX4_goesOn_72 rfl rfl rfl ?_
      refine ew_get (t := 76) (j := 21) (v := .int (nI v)) fcX4 rfl (Nat.le_of_ble_eq_true rfl) q1042 rfl dX4_goesOn_73 rfl ?_
      refine ew_if_ne (t := 84) (t2 := 79) dX4_goesOn_76 rfl rfl (fun c_76 => ?_) (fun c_76 => ?_)
      · refine ew_bipush (t := 86) (v := 17) dX4_goesOn_84 (by decide) rfl ?_
        refine ew_icmp_le (t := 102) (t2 := 89) dX4_goesOn_86 rfl rfl (fun c_86 => ?_) (fun c_86 => ?_)
        · refine ew_aload_n (t := 103) dX4_goesOn_102 rfl rfl rfl ?_
          obtain ⟨b0, hb0, eb0⟩ := hok v (Nat.le_refl v)
          refine ew_callV (t := 106) (As := []) (am_goes1 rfl m34 m35 m36 rfl rfl rfl rfl rfl rfl rfl rfl hF0 ha (show (R 45) v = nI b0 from eb0) hb0 rfl (by omega) (by omega)) (fcX4).1 rfl (lw_V q1223 q1225 qs36 q60 q1226) rfl naX4_goes dX4_goesOn_103 rfl (Nat.le_of_ble_eq_true rfl) (Nat.le_of_ble_eq_true rfl) (Nat.le_refl _) (Nat.le_refl _) (Nat.le_of_ble_eq_true rfl) rfl (fun r h1 n1 q => ?_)
          have hA : attI1 (F34 3) (F34 4) (upd (R 44) v (R 44 v + 1) v) (R 46 (v - 1)) (R 47 (v - 1)) (R 48 v) (R 49 v) = attM F34 (cdM R v (R 44 v + 1)) v := by
            obtain ⟨w, rfl⟩ : ∃ w, v = w + 1 := ⟨v - 1, by omega⟩
            rfl
          have q2 := goes_M (F34 := F34) (R := cdM R v (R 44 v + 1)) hb0 eb0 hA q
          clear q
          obtain ⟨hn1, q2⟩ := q2
          subst hn1
          have hmx : R 44 v + 1 ≤ mxI v := by rw [show mxI v = 17 from if_neg (by omega)]; exact c_86
          rcases q2 with ⟨e1, rfl, rfl⟩ | ⟨x, e1, hx, rfl, rfl⟩
          · have e1 : tryM F34 F35 F36 (s 22) (s 23) (s 24) a v (cdM R v (R 44 v + 1)) = none := e1
            have hst : stepM F34 F35 F36 (s 22) (s 23) (s 24) a v R = (some v, cdM R v (R 44 v + 1)) := by unfold stepM; rw [if_pos hmx, e1]
            refine ew_if_eq (t := 30) (t2 := 109) dX4_goesOn_106 rfl rfl (fun c_106 => ?_) (fun c_106 => absurd rfl c_106)
            rw [hst] at kk
            exact kk (fun _ hh => by cases hh; exact okM_cd hok)
          · have e1 : tryM F34 F35 F36 (s 22) (s 23) (s 24) a v (cdM R v (R 44 v + 1)) = some x := e1
            refine EW.heap (h' := hovM h s al (nI v) (putM v (cdM R v (R 44 v + 1)) x)) (hov_mrg rfl) ?_
            refine ew_if_eq (t := 30) (t2 := 109) dX4_goesOn_106 rfl rfl (fun c_106 => ?_) (fun c_106 => ?_)
            · have hx0 : ¬ 0 < x.2.2.2.2.2 := of_decide_eq_false (b2i_0.mp c_106)
              have hst : stepM F34 F35 F36 (s 22) (s 23) (s 24) a v R = (some v, putM v (cdM R v (R 44 v + 1)) x) := by unfold stepM; rw [if_pos hmx, e1]; dsimp only; rw [if_neg hx0]
              rw [hst] at kk
              exact kk (fun _ hh => by cases hh; exact okM_le (by omega) (okM_put hx (okM_cd hok)))
            · have hx0 : 0 < x.2.2.2.2.2 := of_decide_eq_true (b2i_1.mp c_106)
              have hst : stepM F34 F35 F36 (s 22) (s 23) (s 24) a v R = (some (v + 1), cdM (putM v (cdM R v (R 44 v + 1)) x) (v + 1) (-1)) := by unfold stepM; rw [if_pos hmx, e1]; dsimp only; rw [if_pos hx0]
              rw [hst] at kk
              refine ew_aload_n (t := 110) dX4_goesOn_109 rfl rfl rfl ?_
              refine ew_dup (t := 111) dX4_goesOn_110 rfl rfl ?_
              refine ew_get (t := 114) (j := 21) (v := .int (nI v)) fcX4 rfl (Nat.le_of_ble_eq_true rfl) q1042 rfl dX4_goesOn_111 rfl ?_
              refine ew_ic1 (t := 115) dX4_goesOn_114 rfl ?_
              refine ew_iadd (t := 116) dX4_goesOn_115 rfl ?_
              refine ew_put (t := 119) (j := 21) (fs' := MOf (upd s 21 ((nI v) + 1)) al) (h' := (hov h [(33, OB 4 (MOf (upd s 21 ((nI v) + 1)) al)), (44, IA 7 ((putM v (cdM R v (R 44 v + 1)) x) 44)), (45, IA 7 ((putM v (cdM R v (R 44 v + 1)) x) 45)), (46, IA 7 ((putM v (cdM R v (R 44 v + 1)) x) 46)), (47, IA 7 ((putM v (cdM R v (R 44 v + 1)) x) 47)), (48, IA 7 ((putM v (cdM R v (R 44 v + 1)) x) 48)), (49, IA 7 ((putM v (cdM R v (R 44 v + 1)) x) 49)), (50, IA 7 ((putM v (cdM R v (R 44 v + 1)) x) 50)), (51, IA 7 ((putM v (cdM R v (R 44 v + 1)) x) 51))])) fcX4 rfl (Nat.le_of_ble_eq_true rfl) rfl q1042 rfl rfl (Nat.le_of_ble_eq_true rfl) rfl dX4_goesOn_116 (hov_up rfl) rfl ?_
              refine ew_aload_n (t := 120) dX4_goesOn_119 rfl rfl rfl ?_
              refine ew_get (t := 123) (j := 13) (v := .ref 44) fcX4 rfl (Nat.le_of_ble_eq_true rfl) q1034 rfl dX4_goesOn_120 rfl ?_
              refine ew_aload_n (t := 124) dX4_goesOn_123 rfl rfl rfl ?_
              refine ew_get (t := 127) (j := 21) (v := .int ((nI v) + 1)) fcX4 rfl (Nat.le_of_ble_eq_true rfl) q1042 rfl dX4_goesOn_124 rfl ?_
              refine ew_icm1 (t := 128) dX4_goesOn_127 rfl ?_
              refine ew_iast (t := 129) (j := (v + 1)) (N := 7) (h' := (hov h [(33, OB 4 (MOf (upd s 21 ((nI v) + 1)) al)), (44, IA 7 (upd ((putM v (cdM R v (R 44 v + 1)) x) 44) (v + 1) (-1))), (45, IA 7 ((putM v (cdM R v (R 44 v + 1)) x) 45)), (46, IA 7 ((putM v (cdM R v (R 44 v + 1)) x) 46)), (47, IA 7 ((putM v (cdM R v (R 44 v + 1)) x) 47)), (48, IA 7 ((putM v (cdM R v (R 44 v + 1)) x) 48)), (49, IA 7 ((putM v (cdM R v (R 44 v + 1)) x) 49)), (50, IA 7 ((putM v (cdM R v (R 44 v + 1)) x) 50)), (51, IA 7 ((putM v (cdM R v (R 44 v + 1)) x) 51))])) rfl (by rw [nI_1]; exact vp_in_nI (by omega) (by omega)) (by rw [nI_1]; exact nI_clamp (by omega)) dX4_goesOn_128 (hov_up rfl) rfl ?_
              refine ew_goto (t := 30) dX4_goesOn_129 rfl ?_
              rw [nI_1]
              exact kk (fun _ hh => by cases hh; exact okM_cd (okM_put hx (okM_cd hok)))
        · refine ew_aload_n (t := 90) dX4_goesOn_89 rfl rfl rfl ?_
          refine ew_dup (t := 91) dX4_goesOn_90 rfl rfl ?_
          refine ew_get (t := 94) (j := 21) (v := .int (nI v)) fcX4 rfl (Nat.le_of_ble_eq_true rfl) q1042 rfl dX4_goesOn_91 rfl ?_
          refine ew_ic1 (t := 95) dX4_goesOn_94 rfl ?_
          refine ew_isub (t := 96) dX4_goesOn_95 rfl ?_
          refine ew_put (t := 99) (j := 21) (fs' := MOf (upd s 21 ((nI v) - 1)) al) (h' := (hov h [(33, OB 4 (MOf (upd s 21 ((nI v) - 1)) al)), (44, IA 7 (upd (R 44) v (((R 44) v) + 1))), (45, IA 7 (R 45)), (46, IA 7 (R 46)), (47, IA 7 (R 47)), (48, IA 7 (R 48)), (49, IA 7 (R 49)), (50, IA 7 (R 50)), (51, IA 7 (R 51))])) fcX4 rfl (Nat.le_of_ble_eq_true rfl) rfl q1042 rfl rfl (Nat.le_of_ble_eq_true rfl) rfl dX4_goesOn_96 (hov_up rfl) rfl ?_
          refine ew_goto (t := 30) dX4_goesOn_99 rfl ?_
          have hst : stepM F34 F35 F36 (s 22) (s 23) (s 24) a v R = (predM v, cdM R v (R 44 v + 1)) := by unfold stepM; rw [if_neg (by rw [show mxI v = 17 from if_neg (by omega)]; exact c_86)]
          rw [hst] at kk
          obtain ⟨w, rfl⟩ : ∃ w, v = w + 1 := ⟨v - 1, by omega⟩
          rw [nI_pred]
          exact kk (fun _ hh => by cases hh; exact okM_le (by omega) (okM_cd hok))
      · exact absurd c_76 (nI_ne0 (by omega) (by omega))
