-- Obj fields dict_keys(['cls', 'fun', 'sname', 'refs', 'extra', 'ups'])
/-! the component: clear -/
set_option maxRecDepth 100000
/-- a list stays where its cells stay -/
theorem LSe.keep {h h' : AH} {n n' c ci np : Nat} {O : Nat → List Value} {mo : Int32} {e : Nat} (ls : LSe h n c ci np O mo e) (hn : n ≤ n') (hc : h' c = h c) (he : 63 ≤ e → e < n → h' e = h e) (ho : ∀ p vs, 63 ≤ p → p < n → h p = some (OB ci vs) → h' p = h p) : LSe h' n' c ci np O mo e := by
  obtain ⟨h1, h2, h3⟩ := ls
  refine ⟨h1, hc.trans h2, ?_⟩
  rcases h3 with q | ⟨q1, q2, f, xe, hf⟩
  · exact Or.inl q
  · refine Or.inr ⟨q1, by omega, f, (he q1 q2).trans xe, fun j hj => ?_⟩
    obtain ⟨p, p1, p2, p3, p4⟩ := hf j hj
    exact ⟨p, p1, p2, by omega, (ho p _ p2 p3 p4).trans p4⟩
theorem LSe.ne {h : AH} {n c ci np : Nat} {O : Nat → List Value} {mo : Int32} {e : Nat} (ls : LSe h n c ci np O mo e) {p ci' : Nat} {vs : List Value} (hp : h p = some (OB ci' vs)) : ¬ (p = e ∧ 63 ≤ e) := by
  rintro ⟨z1, z2⟩
  rcases ls.2.2 with w1 | ⟨-, -, f1, xe1, -⟩
  · omega
  · rw [z1, xe1] at hp; cases hp
/-- clear: what the list is then -/
theorem LSe.clear {h : AH} {n c ci np : Nat} {O : Nat → List Value} {mo : Int32} {e : Nat} (hc : c < 63) (ls : LSe h n c ci np O mo e) : ∃ h', (∀ (l : Launch) (G : GW) (n' : Nat), AM l G yJ2_clear cJ2_clear 4 none 0 0 0 [.ref c] h n' (Qv h' n')) ∧ (∀ O', LSe h' n c ci 0 O' (mo + 1) e) ∧ (∀ k, ¬ k = c → ¬ (k = e ∧ 63 ≤ e) → h' k = h k) := by
  obtain ⟨h1, h2, h3⟩ := ls
  rcases h3 with ⟨rfl, rfl⟩ | ⟨q1, q2, f, xe, hf⟩
  · exact ⟨_, fun l G n' => al_clear0 h2, fun O' => ⟨by omega, hv_hit, Or.inl ⟨rfl, rfl⟩⟩, fun k h4 h5 => hv_miss h4⟩
  · exact ⟨_, fun l G n' => al_clear1 (by omega) (by omega) h2 xe, fun O' => ⟨by omega, hv_hit, Or.inr ⟨q1, q2, _, (hv_miss (by omega)).trans hv_hit, fun j hj => by omega⟩⟩, fun k h4 h5 => (hv_miss h4).trans (hv_miss (fun z => h5 ⟨z, q1⟩))⟩
/-- behind clear -/
def XCQ (h : AH) (n e e2 : Nat) (ans : Int32) : Option Value → AH → Nat → Prop := fun r h' n' => r = some (.int ans) ∧ n' = n ∧ (∃ mo', ∀ O, LSe h' n 9 8 0 O mo' e) ∧ (∃ mo', ∀ O, LSe h' n 10 9 0 O mo' e2) ∧ (∀ k, ¬ k = 9 → ¬ k = 10 → ¬ (k = e ∧ 63 ≤ e) → ¬ (k = e2 ∧ 63 ≤ e2) → h' k = h k)
set_option maxHeartbeats 600000 in
theorem xc_clear {l : Launch} {G : GW} {h : AH} {n : Nat} {s : Nat → Int32} {F : Nat → Nat → Int32} {np nd e e2 : Nat} {mo md : Int32} (hn : 63 ≤ n) (x1 : h 1 = some (XO s)) (xt : XT F h) (ls : LSe h n 9 8 np (pcO F) mo e) (ld : LSe h n 10 9 nd (drO F) md e2) (hne : 63 ≤ e2 → ¬ e2 = e) : AM l G yX0_clear cX0_clear 2 (some .int) 4 0 0 [.ref 1] h n (XCQ h n e e2 (nI np + nI nd)) := by
  refine AM.of (L := [some (.ref 1), none]) (by decide) (Nat.le_of_ble_eq_true rfl) rfl ?_
  obtain ⟨h1, a1, l1, k1⟩ := ls.clear (by omega)
  have ld1 : LSe h1 n 10 9 nd (drO F) md e2 := ld.keep (Nat.le_refl _) (k1 10 (by omega) (by omega)) (fun q1 q2 => k1 e2 (by omega) (fun z => hne q1 z.1)) (fun p vs p1 p2 p3 => k1 p (by omega) (ls.ne p3))
  obtain ⟨h2, a2, l2, k2⟩ := ld1.clear (by omega)
  refine ew_aload_n (t := 1) dX0_clear_0 rfl rfl rfl ?_
  refine ew_get (t := 4) (j := 0) (v := .ref 2) fcX0 x1 (Nat.le_of_ble_eq_true rfl) q255 rfl dX0_clear_1 rfl ?_
  refine ew_getN (t := 7) (j := 6) (v := .ref 9) fcX1 xt.1 (Nat.le_of_ble_eq_true rfl) q140 rfl dX0_clear_4 rfl ?_
  refine ew_callF (t := 12) (As := []) (al_size ls.2.1) (fcJ2).1 ls.2.1 (lw_F q557 q561 q563 q55 q565) fw_size naI_J2_size dX0_clear_7 rfl (Nat.le_of_ble_eq_true rfl) (Nat.le_of_ble_eq_true rfl) (Nat.le_refl _) (Nat.le_refl _) (Nat.le_of_ble_eq_true rfl) rfl (qi ?_)
  refine ew_aload_n (t := 13) dX0_clear_12 rfl rfl rfl ?_
  refine ew_get (t := 16) (j := 0) (v := .ref 2) fcX0 x1 (Nat.le_of_ble_eq_true rfl) q255 rfl dX0_clear_13 rfl ?_
  refine ew_getN (t := 19) (j := 7) (v := .ref 10) fcX1 xt.1 (Nat.le_of_ble_eq_true rfl) q142 rfl dX0_clear_16 rfl ?_
  refine ew_callF (t := 24) (As := []) (al_size ld.2.1) (fcJ2).1 ld.2.1 (lw_F q557 q561 q563 q55 q565) fw_size naI_J2_size dX0_clear_19 rfl (Nat.le_of_ble_eq_true rfl) (Nat.le_of_ble_eq_true rfl) (Nat.le_refl _) (Nat.le_refl _) (Nat.le_of_ble_eq_true rfl) rfl (qi ?_)
  refine ew_iadd (t := 25) dX0_clear_24 rfl ?_
  refine ew_istore_n (t := 26) (L' := [some (.ref 1), some (.int ((nI np) + (nI nd)))]) dX0_clear_25 rfl (Nat.le_of_ble_eq_true rfl) rfl rfl ?_
  refine ew_aload_n (t := 27) dX0_clear_26 rfl rfl rfl ?_
  refine ew_get (t := 30) (j := 0) (v := .ref 2) fcX0 x1 (Nat.le_of_ble_eq_true rfl) q255 rfl dX0_clear_27 rfl ?_
  refine ew_getN (t := 33) (j := 6) (v := .ref 9) fcX1 xt.1 (Nat.le_of_ble_eq_true rfl) q140 rfl dX0_clear_30 rfl ?_
  refine ew_callF (t := 38) (As := []) (a1 l G n) (fcJ2).1 ls.2.1 (lw_F q721 q724 q726 q55 q728) fw_clear naI_J2_clear dX0_clear_33 rfl (Nat.le_of_ble_eq_true rfl) (Nat.le_of_ble_eq_true rfl) (Nat.le_refl _) (Nat.le_refl _) (Nat.le_of_ble_eq_true rfl) rfl (qv ?_)
  refine ew_aload_n (t := 39) dX0_clear_38 rfl rfl rfl ?_
  refine ew_get (t := 42) (j := 0) (v := .ref 2) fcX0 ((k1 1 (by omega) (by omega)).trans x1) (Nat.le_of_ble_eq_true rfl) q255 rfl dX0_clear_39 rfl ?_
  refine ew_getN (t := 45) (j := 7) (v := .ref 10) fcX1 ((k1 2 (by omega) (by omega)).trans xt.1) (Nat.le_of_ble_eq_true rfl) q142 rfl dX0_clear_42 rfl ?_
  refine ew_callF (t := 50) (As := []) (a2 l G n) (fcJ2).1 ld1.2.1 (lw_F q721 q724 q726 q55 q728) fw_clear naI_J2_clear dX0_clear_45 rfl (Nat.le_of_ble_eq_true rfl) (Nat.le_of_ble_eq_true rfl) (Nat.le_refl _) (Nat.le_refl _) (Nat.le_of_ble_eq_true rfl) rfl (qv ?_)
  refine ew_iload_n (t := 51) dX0_clear_50 rfl rfl rfl ?_
  exact ew_iret rfl dX0_clear_51 (Nat.le_refl _) (Nat.le_refl _) ⟨rfl, rfl, ⟨mo + 1, fun O => (l1 O).keep (Nat.le_refl _) (k2 9 (by omega) (by omega)) (fun q1 q2 => k2 e (by omega) (fun z => hne z.2 z.1.symm)) (fun p vs p1 p2 p3 => k2 p (by omega) (ld1.ne p3))⟩, ⟨md + 1, l2⟩, fun k q1 q2 q3 q4 => (k2 k q2 q4).trans (k1 k q1 q3)⟩
