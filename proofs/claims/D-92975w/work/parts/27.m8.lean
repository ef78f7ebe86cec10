/-! the reference: what goesOn gives its callers: the ways one by one -/
set_option maxRecDepth 100000
/-- a way: its cells by hours, last course, turns, slowed, what rings gave -/
abbrev WY : Type := (Nat → Nat) × Nat × Nat × Nat × Nat
/-- the rows hold a way -/
def lfM (H : Nat) (R : MR) (w : WY) : Prop := (∀ j, j ≤ H → R 45 j = nI (w.1 j) ∧ w.1 j < 100) ∧ R 46 (H - 1) = nI w.2.1 ∧ w.2.1 < 8 ∧ R 48 H = nI w.2.2.1 ∧ w.2.2.1 < 3 ∧ R 49 H = nI w.2.2.2.1 ∧ w.2.2.2.1 < 2 ∧ R 51 H = nI w.2.2.2.2 ∧ w.2.2.2.2 ≤ 64
/-- from these rows on goesOn gives just these ways -/
def EnM (F34 F35 F36 : Nat → Int32) (nr nt nf : Int32) (a H : Nat) : List WY → Nat → MR → Prop
  | [], v, R => ∃ f, (runM F34 F35 F36 nr nt nf a H f (some (begM H v), R)).1 = none
  | w :: ws, v, R => ∃ (f : Nat) (R' : MR), runM F34 F35 F36 nr nt nf a H f (some (begM H v), R) = (some H, R') ∧ lfM H R' w ∧ EnM F34 F35 F36 nr nt nf a H ws H R'
/-- what the walk reads beside its rows -/
def CFM (h : AH) (F34 F35 F36 : Nat → Int32) (a H : Nat) : Prop := h 34 = some (IA 8 F34) ∧ h 35 = some (IA 7 F35) ∧ h 36 = some (IA 7 F36) ∧ F34 0 = nI a ∧ a < 100 ∧ F34 2 = nI H ∧ 0 < H ∧ H ≤ 6
theorem lfM_ok {H : Nat} {R : MR} {w : WY} (h : lfM H R w) : okM (begM H H) R := by
  intro j hj
  have : begM H H = H - 1 := if_pos rfl
  exact ⟨w.1 j, (h.1 j (by omega)).2, (h.1 j (by omega)).1⟩
theorem hov_mid {h : AH} {a : Nat} {c : AC} (e : h a = some c) {l2 : List (Nat × AC)} (h2 : ∀ q ∈ l2, a ≠ q.1) : ∀ (l1 : List (Nat × AC)), hov h (l1 ++ (a, c) :: l2) = hov h (l1 ++ l2)
  | [] => by
    show hov h ((a, c) :: l2) = hov h l2
    rw [hov_cons]
    funext k
    by_cases hk : k = a
    · subst hk; rw [va_up_self, hov_out h2, e]
    · rw [va_up_ne _ _ hk]
  | (b, d) :: l1 => by
    show hov h ((b, d) :: (l1 ++ (a, c) :: l2)) = hov h ((b, d) :: (l1 ++ l2))
    rw [hov_cons, hov_cons, hov_mid e h2 l1]
theorem hov_ne {h : AH} {a k : Nat} {c0 : AC} (hk : ¬ k = a) : ∀ (l : List (Nat × AC)), hov (hov h [(a, c0)]) l k = hov h l k
  | [] => by
    show cond (Nat.beq k a) (some c0) (h k) = h k
    rw [beq_ff hk]; rfl
  | (b, d) :: l => by
    show cond (Nat.beq k b) (some d) (hov (hov h [(a, c0)]) l k) = cond (Nat.beq k b) (some d) (hov h l k)
    rw [hov_ne hk l]
theorem hov_shadow {h : AH} (a : Nat) (c0 c : AC) (l : List (Nat × AC)) : hov (hov h [(a, c0)]) ((a, c) :: l) = hov h ((a, c) :: l) := by
  funext k
  show cond (Nat.beq k a) (some c) (hov (hov h [(a, c0)]) l k) = cond (Nat.beq k a) (some c) (hov h l k)
  by_cases hk : k = a
  · subst hk; simp
  · rw [hov_ne hk]
/-- the rows at the beginning -/
def begR (x : Int32) (R : MR) : MR := fun k => match k with
  | 44 => upd (R 44) 0 (-1)
  | 45 => upd (R 45) 0 x
  | 48 => upd (R 48) 0 0
  | 49 => upd (R 49) 0 0
  | 50 => upd (R 50) 0 0
  | 51 => upd (R 51) 0 1
  | k => R k
def rowsM (h : AH) (R : MR) : Prop := ∀ k, 44 ≤ k → k ≤ 51 → h k = some (IA 7 (R k))
section EWM
variable {l : Launch} {G : GW} {y : MethodName} {cc : ByteArray} {nL : Nat} {ret : Option FieldType} {fr mc ms : Nat} {Q : Option Value → AH → Nat → Prop} {k sl : Nat} {h : AH} {n pc t i : Nat} {L : List (Option Value)} {st : List Value} {s : Nat → Int32} {al : Int64} {R : MR}
theorem ew_asTold (m33 : h 33 = some (MO s al)) (hw : GoodIn lw_all (wsV y.cls i RX4 yX4_asTold (ws_ yX4_asTold cX4_asTold 1 none))) (hd : decode cc pc = .ok (.invokevirtual i, 3)) (hfr : 1 ≤ fr) (hk : k ≤ mc) (hs : sl ≤ ms) (hst : (st.map fun v => v.category).sum ≤ 8) (hp : pc + 3 = t)
    (kk : EW l G y cc nL ret fr mc ms Q k sl (hov h [(33, MO (upd (upd (upd s 22 0) 23 0) 24 0) al)]) n t L st) : EW l G y cc nL ret fr mc ms Q k sl h n pc L (.ref 33 :: st) :=
  ew_callV (As := []) (am_asTold m33) (fcX4).1 m33 hw rfl naX4_asTold hd rfl hfr (Nat.le_of_ble_eq_true rfl) hk hs hst hp (qv kk)
theorem ew_begins {F34 : Nat → Int32} (m33 : h 33 = some (MO s al)) (m34 : h 34 = some (IA 8 F34)) (mR : rowsM h R) (hw : GoodIn lw_all (wsV y.cls i RX4 yX4_begins (ws_ yX4_begins cX4_begins 1 none))) (hd : decode cc pc = .ok (.invokevirtual i, 3)) (hfr : 1 ≤ fr) (hk : k ≤ mc) (hs : sl ≤ ms) (hst : (st.map fun v => v.category).sum ≤ 8) (hp : pc + 3 = t)
    (kk : EW l G y cc nL ret fr mc ms Q k sl (hovM h s al (nI 0) (begR (F34 1) R)) n t L st) : EW l G y cc nL ret fr mc ms Q k sl h n pc L (.ref 33 :: st) := by
  refine ew_callV (As := []) (am_begins m33 m34 (mR 44 (by decide) (by decide)) (mR 45 (by decide) (by decide)) (mR 48 (by decide) (by decide)) (mR 49 (by decide) (by decide)) (mR 50 (by decide) (by decide)) (mR 51 (by decide) (by decide))) (fcX4).1 m33 hw rfl naX4_begins hd rfl hfr (Nat.le_of_ble_eq_true rfl) hk hs hst hp (qv (EW.heap ?_ kk))
  have e1 := hov_mid (mR 46 (by decide) (by decide)) (l2 := [(47, IA 7 (R 47)), (48, IA 7 (begR (F34 1) R 48)), (49, IA 7 (begR (F34 1) R 49)), (50, IA 7 (begR (F34 1) R 50)), (51, IA 7 (begR (F34 1) R 51))]) (by intro q hq; simp only [List.mem_cons, List.not_mem_nil, or_false] at hq; rcases hq with rfl | rfl | rfl | rfl | rfl <;> (dsimp only; decide)) [(33, MO (upd s 21 (nI 0)) al), (44, IA 7 (begR (F34 1) R 44)), (45, IA 7 (begR (F34 1) R 45))]
  have e2 := hov_mid (mR 47 (by decide) (by decide)) (l2 := [(48, IA 7 (begR (F34 1) R 48)), (49, IA 7 (begR (F34 1) R 49)), (50, IA 7 (begR (F34 1) R 50)), (51, IA 7 (begR (F34 1) R 51))]) (by intro q hq; simp only [List.mem_cons, List.not_mem_nil, or_false] at hq; rcases hq with rfl | rfl | rfl | rfl <;> (dsimp only; decide)) [(33, MO (upd s 21 (nI 0)) al), (44, IA 7 (begR (F34 1) R 44)), (45, IA 7 (begR (F34 1) R 45))]
  exact (e1.trans e2).symm
theorem ew_goesOn {F34 F35 F36 : Nat → Int32} {a H v : Nat} {ws : List WY} (cf : CFM h F34 F35 F36 a H) (hE : EnM F34 F35 F36 (s 22) (s 23) (s 24) a H ws v R) (hv : v ≤ H) (hok : okM (begM H v) R) (hw : GoodIn lw_all (wsV y.cls i RX4 yX4_goesOn (ws_ yX4_goesOn cX4_goesOn 1 (some .boolean)))) (hd : decode cc pc = .ok (.invokevirtual i, 3)) (hfr : 4 ≤ fr) (hk : k ≤ mc) (hs : sl ≤ ms) (hst : (st.map fun v => v.category).sum ≤ 8) (hp : pc + 3 = t)
    (k0 : ws = [] → ∀ (lv : Int32) (R' : MR), EW l G y cc nL ret fr mc ms Q k sl (hovM h s al lv R') n t L (.int 0 :: st))
    (k1 : ∀ (w : WY) (ws' : List WY), ws = w :: ws' → ∀ R' : MR, lfM H R' w → EnM F34 F35 F36 (s 22) (s 23) (s 24) a H ws' H R' → EW l G y cc nL ret fr mc ms Q k sl (hovM h s al (nI H) R') n t L (.int 1 :: st)) : EW l G y cc nL ret fr mc ms Q k sl (hovM h s al (nI v) R) n pc L (.ref 33 :: st) := by
  obtain ⟨m34, m35, m36, hF0, ha, hH, hH0, hH6⟩ := cf
  cases ws with
  | nil =>
    obtain ⟨f, hf⟩ := hE
    refine ew_callV (As := []) (am_goesOn (h := hovM h s al (nI v) R) (s := upd s 21 (nI v)) (R := R) (v := v) (f := f) rfl m34 m35 m36 hF0 ha hH hH6 rfl rfl rfl rfl rfl rfl rfl rfl rfl hv hH0 hok (fun w hw => by
      have hf2 : (runM F34 F35 F36 (upd s 21 (nI v) 22) (upd s 21 (nI v) 23) (upd s 21 (nI v) 24) a H f (some (begM H v), R)).1 = none := hf
      rw [hf2] at hw; cases hw)) (fcX4).1 rfl hw rfl naX4_goesOn hd rfl hfr (Nat.le_of_ble_eq_true rfl) hk hs hst hp (fun r h1 n1 q => ?_)
    obtain ⟨rfl, rfl, rfl⟩ := q
    have hf2 : (runM F34 F35 F36 (upd s 21 (nI v) 22) (upd s 21 (nI v) 23) (upd s 21 (nI v) 24) a H f (some (begM H v), R)).1 = none := hf
    rw [hf2]
    exact EW.heap (hov_mrg rfl) (k0 rfl _ _)
  | cons w ws =>
    obtain ⟨f, R', hf, hl, hE2⟩ := hE
    have hf2 : runM F34 F35 F36 (upd s 21 (nI v) 22) (upd s 21 (nI v) 23) (upd s 21 (nI v) 24) a H f (some (begM H v), R) = (some H, R') := hf
    refine ew_callV (As := []) (am_goesOn (h := hovM h s al (nI v) R) (s := upd s 21 (nI v)) (R := R) (v := v) (f := f) rfl m34 m35 m36 hF0 ha hH hH6 rfl rfl rfl rfl rfl rfl rfl rfl rfl hv hH0 hok (fun w hw => by
      rw [hf2] at hw; cases hw; exact Nat.le_refl _)) (fcX4).1 rfl hw rfl naX4_goesOn hd rfl hfr (Nat.le_of_ble_eq_true rfl) hk hs hst hp (fun r h1 n1 q => ?_)
    obtain ⟨rfl, rfl, rfl⟩ := q
    rw [hf2]
    exact EW.heap (hov_mrg rfl) (k1 w ws rfl R' hl hE2)
theorem ew_heavy {F34 F35 F36 : Nat → Int32} {a H : Nat} {w : WY} (cf : CFM h F34 F35 F36 a H) (hl : lfM H R w) (hw : GoodIn lw_all (wsV y.cls i RX4 yX4_heavy (ws_ yX4_heavy cX4_heavy 4 (some .int)))) (hd : decode cc pc = .ok (.invokevirtual i, 3)) (hfr : 1 ≤ fr) (hk : k ≤ mc) (hs : sl ≤ ms) (hst : (st.map fun v => v.category).sum ≤ 8) (hp : pc + 3 = t) {lv : Int32}
    (kk : EW l G y cc nL ret fr mc ms Q k sl (hovM h s al lv R) n t L (.int (heavyI w.2.2.1 (nI w.2.2.2.1) (nI w.2.2.2.2)) :: st)) : EW l G y cc nL ret fr mc ms Q k sl (hovM h s al lv R) n pc L (.ref 33 :: st) := by
  obtain ⟨m34, m35, m36, hF0, ha, hH, hH0, hH6⟩ := cf
  obtain ⟨l1, l2, l3, l4, l5, l6, l7, l8, l9⟩ := hl
  refine ew_callV (As := []) (am_heavy (h := hovM h s al lv R) (TA := R 48) (SA := R 49) (RA := R 51) rfl m34 rfl rfl rfl hH (by omega) l5 l4) (fcX4).1 rfl hw rfl naX4_heavy hd rfl hfr (Nat.le_of_ble_eq_true rfl) hk hs hst hp (qi ?_)
  rw [l6, l8]
  exact kk
end EWM
def wsum : List WY → Int64
  | [] => 0
  | w :: ws => (heavyI w.2.2.1 (nI w.2.2.2.1) (nI w.2.2.2.2)).toInt64 + wsum ws
set_option maxHeartbeats 4000000 in
theorem lp_ways {l : Launch} {G : GW} {n : Nat} {h : AH} {s : Nat → Int32} {al : Int64} {F34 F35 F36 : Nat → Int32} {a H : Nat} (cf : CFM h F34 F35 F36 a H) {RR : Int32} : ∀ (ws : List WY) (v : Nat) (R : MR) (c : Int32), RR = c + nI ws.length → EnM F34 F35 F36 (s 22) (s 23) (s 24) a H ws v R → v ≤ H → okM (begM H v) R → EW l G yX4_ways cX4_ways 2 (some .int) 4 0 0 (fun r h' n' => n' = n ∧ r = some (.int RR) ∧ ∃ lv R', h' = hovM h s al lv R') 0 0 (hovM h s al (nI v) R) n 10 [some (.ref 33), some (.int c)] [] := by
  intro ws
  induction ws with
  | nil =>
    intro v R c hRR hE hv hok
    refine ew_aload_n (t := 11) dX4_ways_10 rfl rfl rfl ?_
    refine ew_goesOn (t := 14) cf hE hv hok (lw_V q1219 q1221 qs35 q60 q1222) dX4_ways_11 (Nat.le_of_ble_eq_true rfl) (Nat.le_refl _) (Nat.le_refl _) (Nat.le_of_ble_eq_true rfl) rfl (fun _ lv R' => ?_) (fun w ws' e => by cases e)
    refine ew_if_eq (t := 23) (t2 := 17) dX4_ways_14 rfl rfl (fun _ => ?_) (fun q => absurd rfl q)
    refine ew_iload_n (t := 24) dX4_ways_23 rfl rfl rfl ?_
    exact ew_iret rfl dX4_ways_24 (Nat.le_refl _) (Nat.le_refl _) ⟨rfl, by rw [hRR]; simp [nI_0], lv, R', rfl⟩
  | cons w ws ih =>
    intro v R c hRR hE hv hok
    refine ew_aload_n (t := 11) dX4_ways_10 rfl rfl rfl ?_
    refine ew_goesOn (t := 14) cf hE hv hok (lw_V q1219 q1221 qs35 q60 q1222) dX4_ways_11 (Nat.le_of_ble_eq_true rfl) (Nat.le_refl _) (Nat.le_refl _) (Nat.le_of_ble_eq_true rfl) rfl (fun e => by cases e) (fun w1 ws1 e R' hl hE2 => ?_)
    cases e
    refine ew_if_eq (t := 23) (t2 := 17) dX4_ways_14 rfl rfl (fun q => absurd q (by decide)) (fun _ => ?_)
    refine ew_iinc (t := 20) (x := c) (v := (c + 1)) (L' := [some (.ref 33), some (.int (c + 1))]) dX4_ways_17 rfl rfl (Nat.le_of_ble_eq_true rfl) rfl rfl ?_
    refine ew_goto (t := 10) dX4_ways_20 rfl ?_
    exact ih H R' (c + 1) (by rw [hRR, List.length_cons, nI_succ]; grind) hE2 (Nat.le_refl _) (lfM_ok hl)
theorem mR_33 {h : AH} {R : MR} {c : AC} (mR : rowsM h R) : rowsM (hov h [(33, c)]) R := by
  intro k h1 h2
  rw [hov_out (by intro q hq; simp only [List.mem_cons, List.not_mem_nil, or_false] at hq; subst hq; dsimp only; omega)]
  exact mR k h1 h2
theorem beg_ok {F34 : Nat → Int32} {R : MR} {H : Nat} (hH : 0 < H) (hS1 : ∃ b, b < 100 ∧ F34 1 = nI b) : okM (begM H 0) (begR (F34 1) R) := by
  intro j hj
  have : begM H 0 = 0 := if_neg (by omega)
  have hj0 : j = 0 := by omega
  subst hj0
  obtain ⟨b, h1, h2⟩ := hS1
  exact ⟨b, h1, (show upd (R 45) 0 (F34 1) 0 = nI b from pk_us.trans h2)⟩
set_option maxHeartbeats 4000000 in
theorem am_ways {l : Launch} {G : GW} {h : AH} {n : Nat} {s : Nat → Int32} {al : Int64} {F34 F35 F36 : Nat → Int32} {a H : Nat} {R : MR} (m33 : h 33 = some (MO s al)) (cf : CFM h F34 F35 F36 a H) (mR : rowsM h R) (hS1 : ∃ b, b < 100 ∧ F34 1 = nI b) {ws : List WY} (hE : EnM F34 F35 F36 0 0 0 a H ws 0 (begR (F34 1) R)) : AM l G yX4_ways cX4_ways 2 (some .int) 4 0 0 [.ref 33] h n (fun r h' n' => n' = n ∧ r = some (.int (nI ws.length)) ∧ ∃ lv R', h' = hovM h (upd (upd (upd s 22 0) 23 0) 24 0) al lv R') := by
  refine AM.of (L := [some (.ref 33), none]) (by decide) (Nat.le_of_ble_eq_true rfl) rfl ?_
  refine ew_aload_n (t := 1) dX4_ways_0 rfl rfl rfl ?_
  refine ew_asTold (t := 4) m33 (lw_V q1211 q1213 qs33 q60 q1214) dX4_ways_1 (Nat.le_of_ble_eq_true rfl) (Nat.le_refl _) (Nat.le_refl _) (Nat.le_of_ble_eq_true rfl) rfl ?_
  refine ew_aload_n (t := 5) dX4_ways_4 rfl rfl rfl ?_
  refine ew_begins (t := 8) (s := (upd (upd (upd s 22 0) 23 0) 24 0)) rfl cf.1 (mR_33 mR) (lw_V q1215 q1217 qs34 q60 q1218) dX4_ways_5 (Nat.le_of_ble_eq_true rfl) (Nat.le_refl _) (Nat.le_refl _) (Nat.le_of_ble_eq_true rfl) rfl ?_
  refine EW.heap (h' := hovM h (upd (upd (upd s 22 0) 23 0) 24 0) al (nI 0) (begR (F34 1) R)) (hov_shadow _ _ _ _) ?_
  refine ew_ic0 (t := 9) dX4_ways_8 rfl ?_
  refine ew_istore_n (t := 10) (L' := [some (.ref 33), some (.int 0)]) dX4_ways_9 rfl (Nat.le_of_ble_eq_true rfl) rfl rfl ?_
  exact lp_ways cf ws 0 _ 0 (by simp) hE (by omega) (beg_ok cf.2.2.2.2.2.2.1 hS1)
