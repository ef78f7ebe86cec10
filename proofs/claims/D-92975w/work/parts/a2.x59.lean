-- Obj fields dict_keys(['cls', 'fun', 'sname', 'refs', 'extra', 'ups'])
/-! the component: takeFrom, image, restore -/
set_option maxRecDepth 100000
theorem LSe.lo {h : AH} {n c ci np : Nat} {O : Nat → List Value} {mo : Int32} {e : Nat} (ls : LSe h n c ci np O mo e) : 63 ≤ e → e < n := by
  intro q
  rcases ls.2.2 with w1 | ⟨-, w2, -⟩
  · omega
  · exact w2
/-- addAll onto a list that is empty -/
theorem LSe.addAll {h : AH} {n c d ci np Nf : Nat} {O O0 : Nat → List Value} {mo md : Int32} {e ed : Nat} {C : String} {Tf : u_T} (hn : 63 ≤ n) (hc : c < 63) (hd : d < 63) (hdc : ¬ d = c) (lc : LSe h n c ci 0 O0 mo e) (ld : LSe h n d ci np O md ed) (hne : 63 ≤ e → ¬ e = ed) (hcl : vwCl[ci]? = some (C, Tf, Nf)) (hcast : Cond.castable C "java/lang/Object" ∈ lw_tbl) :
    ∃ (r : Int32) (h' : AH) (n' : Nat), (∀ (l : Launch) (G : GW), AM l G yJ2_addAll cJ2_addAll 6 (some .boolean) 5 2 20 [.ref c, .ref d] h n (Qi r h' n')) ∧ n ≤ n' ∧ (∃ mo' e', LSe h' n' c ci np O mo' e' ∧ (e' = e ∨ n ≤ e')) ∧ ∀ k, k < n → ¬ k = c → ¬ (k = e ∧ 63 ≤ e) → h' k = h k := by
  obtain ⟨c1, c2, c3⟩ := lc
  obtain ⟨d1, d2, d3⟩ := ld
  by_cases h0 : np = 0
  · subst h0
    have key : ∃ g, ∀ (l : Launch) (G : GW), AM l G yJ2_toArray cJ2_toArray 1 (some (.array (.object "java/lang/Object"))) 3 1 10 [.ref d] h n (Qr n (hov h [(n, RA 0 g)]) (n + 1)) := by
      rcases d3 with ⟨rfl, -⟩ | ⟨q1, q2, f, xe, hf⟩
      · exact ⟨_, fun l G => al_to0 hn d2⟩
      · exact ⟨_, fun l G => al_to1 (np := 0) hn q2 (by omega) xe hcl hcast (fun j hj => by omega) d2⟩
    obtain ⟨g, kg⟩ := key
    refine ⟨0, _, _, fun l G => al_allA hn (by omega) (by omega) hdc d2 (kg l G) c2, by omega, ⟨mo + 1, e, ⟨by omega, (hv_miss (by omega)).trans hv_hit, ?_⟩, Or.inl rfl⟩, fun k k1 k2 k3 => (hv_miss (by omega)).trans (hv_miss k2)⟩
    rcases c3 with q | ⟨q1, q2, f, xe, hf⟩
    · exact Or.inl q
    · exact Or.inr ⟨q1, by omega, f, (hv_miss (by omega)).trans ((hv_miss (by omega)).trans xe), fun j hj => by omega⟩
  · rcases d3 with q | ⟨q1, q2, f, xe, hf⟩
    · omega
    · have hel : ∀ j, j < np → ∀ q, f j = some q → q < n ∧ ∃ vs, h q = some (OB ci vs) := by
        intro j hj q e1
        obtain ⟨p, p1, p2, p3, p4⟩ := hf j hj
        rw [p1] at e1; cases e1
        exact ⟨p3, _, p4⟩
      have tA := fun (l : Launch) (G : GW) => al_to1 (l := l) (G := G) (n := n) hn q2 (by omega) xe hcl hcast hel d2
      have hg : ∀ j, j < np → va_cpy f (fun _ => none) 0 0 np j = f j := by
        intro j hj
        show (if 0 ≤ j ∧ j < 0 + np then f (0 + (j - 0)) else none) = f j
        rw [if_pos ⟨Nat.zero_le _, by omega⟩]; congr 1; omega
      have hgg : ∀ (g0 : Nat → Option Nat) j, j < np → va_cpy (va_cpy f (fun _ => none) 0 0 np) g0 0 0 np j = f j := by
        intro g0 j hj
        show (if 0 ≤ j ∧ j < 0 + np then va_cpy f (fun _ => none) 0 0 np (0 + (j - 0)) else g0 j) = f j
        rw [if_pos ⟨Nat.zero_le _, by omega⟩, show 0 + (j - 0) = j by omega]; exact hg j hj
      rcases c3 with ⟨rfl, -⟩ | ⟨r1, r2, fc, xc, -⟩
      · refine ⟨1, _, _, fun l G => al_allB hn (by omega) (by omega) hdc d2 (tA l G) (by omega) d1 hcl hcast (fun j hj q e1 => ?_) c2, by omega, ⟨mo + 1, n + 1, ⟨d1, (hv_miss (by omega)).trans hv_hit, Or.inr ⟨by omega, by omega, _, (hv_miss (by omega)).trans ((hv_miss (by omega)).trans hv_hit), fun j hj => ?_⟩⟩, Or.inr (by omega)⟩, fun k k1 k2 k3 => (hv_miss (by omega)).trans ((hv_miss k2).trans (hv_miss (by omega)))⟩
        · rw [hg j hj] at e1
          obtain ⟨p, p1, p2, p3, p4⟩ := hf j hj
          rw [p1] at e1; cases e1
          exact ⟨p3, by omega, _, p4⟩
        · obtain ⟨p, p1, p2, p3, p4⟩ := hf j hj
          exact ⟨p, (hgg _ j hj).trans p1, p2, by omega, (hv_miss (by omega)).trans ((hv_miss (by omega)).trans ((hv_miss (by omega)).trans p4))⟩
      · have hpe : ∀ p vs, h p = some (OB ci vs) → ¬ p = e := by
          intro p vs h1 h2
          rw [h2, xc] at h1; cases h1
        refine ⟨1, _, _, fun l G => al_allC hn (by omega) (by omega) hdc d2 (tA l G) (by omega) d1 hcl hcast (fun j hj q e1 => ?_) r2 (by omega) c2 xc, by omega, ⟨mo + 1, e, ⟨d1, (hv_miss (by omega)).trans hv_hit, Or.inr ⟨r1, by omega, _, (hv_miss (by omega)).trans ((hv_miss (by omega)).trans hv_hit), fun j hj => ?_⟩⟩, Or.inl rfl⟩, fun k k1 k2 k3 => (hv_miss (by omega)).trans ((hv_miss k2).trans (hv_miss (fun z => k3 ⟨z, r1⟩)))⟩
        · rw [hg j hj] at e1
          obtain ⟨p, p1, p2, p3, p4⟩ := hf j hj
          rw [p1] at e1; cases e1
          exact ⟨p3, by omega, hpe _ _ p4, _, p4⟩
        · obtain ⟨p, p1, p2, p3, p4⟩ := hf j hj
          exact ⟨p, (hgg _ j hj).trans p1, p2, by omega, (hv_miss (by omega)).trans ((hv_miss (by omega)).trans ((hv_miss (hpe _ _ p4)).trans p4))⟩
/-- what a Told holds: its cells from D on -/
def TOx (D : Nat) : AC := OB 1 [.ref (D + 1), .ref (D + 2), .ref (D + 3), .ref (D + 4), .ref (D + 5), .ref (D + 6), .ref (D + 7), .ref (D + 8)]
def XTd (D : Nat) (F : Nat → Nat → Int32) (h : AH) : Prop := h D = some (TOx D) ∧ h (D + 1) = some (IA 8 (F 34)) ∧ h (D + 2) = some (IA 7 (frX (F 35))) ∧ h (D + 3) = some (IA 7 (F 36)) ∧ h (D + 4) = some (BA 200 (F 37)) ∧ h (D + 5) = some (BA 200 (F 38)) ∧ h (D + 6) = some (BA 100 (F 39))
theorem XTd.x {F : Nat → Nat → Int32} {h : AH} : XTd 2 F h ↔ XT F h := Iff.rfl
def byF (F : Nat → Nat → Int32) : Prop := (∀ j, j < 200 → fits .byte (.int (F 37 j)) = true) ∧ (∀ j, j < 200 → fits .byte (.int (F 38 j)) = true) ∧ ∀ j, j < 100 → fits .byte (.int (F 39 j)) = true
/-- behind takeFrom -/
def TKQ (D : Nat) (F : Nat → Nat → Int32) (h : AH) (n np nd e e2 : Nat) (O1 O2 : Nat → List Value) : Option Value → AH → Nat → Prop := fun r h' n' => r = none ∧ n ≤ n' ∧ XTd D F h' ∧ (∃ mo' md' e' e2', LSe h' n' (D + 7) 8 np O1 mo' e' ∧ LSe h' n' (D + 8) 9 nd O2 md' e2' ∧ (e' = e ∨ n ≤ e') ∧ (e2' = e2 ∨ n ≤ e2') ∧ (63 ≤ e2' → ¬ e2' = e')) ∧ ∀ k, k < n → ¬ (D + 1 ≤ k ∧ k ≤ D + 8) → ¬ (k = e ∧ 63 ≤ e) → ¬ (k = e2 ∧ 63 ≤ e2) → h' k = h k
set_option maxHeartbeats 600000 in
theorem ax_take19 {l : Launch} {G : GW} {h : AH} {n : Nat} {F F0 : Nat → Nat → Int32} {np nd np0 nd0 e e2 e3 e4 : Nat} {mo md m3 m4 : Int32} {O1 O2 O3 O4 : Nat → List Value} (hn : 63 ≤ n) (xd : XTd 19 F0 h) (xs : XTd 2 F h) (fb : byF F) (lp : LSe h n 26 8 np0 O3 mo e) (ld : LSe h n 27 9 nd0 O4 md e2) (sp : LSe h n 9 8 np O1 m3 e3) (sd : LSe h n 10 9 nd O2 m4 e4) (ne12 : 63 ≤ e → ¬ e = e2) (ne13 : 63 ≤ e → ¬ e = e3) (ne14 : 63 ≤ e → ¬ e = e4) (ne23 : 63 ≤ e2 → ¬ e2 = e3) (ne24 : 63 ≤ e2 → ¬ e2 = e4) : AM l G yX1_takeFrom cX1_takeFrom 2 none 8 4 40 [.ref 19, .ref 2] h n (TKQ 19 F h n np nd e e2 O1 O2) := by
  refine AM.of (L := [some (.ref 19), some (.ref 2)]) (by decide) (Nat.le_of_ble_eq_true rfl) rfl ?_
  refine ew_aload_n (t := 1) dX1_takeFrom_0 rfl rfl rfl ?_
  refine ew_get (t := 4) (j := 0) (v := .ref 3) fcX1 xs.1 (Nat.le_of_ble_eq_true rfl) q125 rfl dX1_takeFrom_1 rfl ?_
  refine ew_ic0 (t := 5) dX1_takeFrom_4 rfl ?_
  refine ew_aload_n (t := 6) dX1_takeFrom_5 rfl rfl rfl ?_
  refine ew_get (t := 9) (j := 0) (v := .ref 20) fcX1 xd.1 (Nat.le_of_ble_eq_true rfl) q125 rfl dX1_takeFrom_6 rfl ?_
  refine ew_ic0 (t := 10) dX1_takeFrom_9 rfl ?_
  refine ew_aload_n (t := 11) dX1_takeFrom_10 rfl rfl rfl ?_
  refine ew_get (t := 14) (j := 0) (v := .ref 20) fcX1 xd.1 (Nat.le_of_ble_eq_true rfl) q125 rfl dX1_takeFrom_11 rfl ?_
  refine ew_alen (t := 15) (v := 8) xd.2.1 (Nat.le_of_ble_eq_true rfl) rfl dX1_takeFrom_14 rfl ?_
  refine ew_copyI (t := 18) (K := 0) (ty := .int) (sp := 0) (dp := 0) (N := 8) (h' := (hov h [(20, IA 8 (va_cpy (F 34) (F0 34) 0 0 8))])) q866 q359 q358 q61 xs.2.1 xd.2.1 rfl rfl (by decide) (by decide) (by decide) (by decide) (by decide) (by decide) (by decide) (by decide) (fun _ _ => rfl) dX1_takeFrom_15 (Nat.le_of_ble_eq_true rfl) (Nat.le_of_ble_eq_true rfl) hov_up0 rfl ?_
  refine EW.arrI (h' := (hov h [(20, IA 8 (F 34))])) (a := 20) (F 34) rfl cpy7 (hov_up rfl) ?_
  refine ew_aload_n (t := 19) dX1_takeFrom_18 rfl rfl rfl ?_
  refine ew_get (t := 22) (j := 1) (v := .ref 4) fcX1 ((hv_miss (by omega)).trans xs.1) (Nat.le_of_ble_eq_true rfl) q128 rfl dX1_takeFrom_19 rfl ?_
  refine ew_ic0 (t := 23) dX1_takeFrom_22 rfl ?_
  refine ew_aload_n (t := 24) dX1_takeFrom_23 rfl rfl rfl ?_
  refine ew_get (t := 27) (j := 1) (v := .ref 21) fcX1 ((hv_miss (by omega)).trans xd.1) (Nat.le_of_ble_eq_true rfl) q128 rfl dX1_takeFrom_24 rfl ?_
  refine ew_ic0 (t := 28) dX1_takeFrom_27 rfl ?_
  refine ew_bipush (t := 30) (v := 7) dX1_takeFrom_28 (by decide) rfl ?_
  refine ew_copyI (t := 33) (K := 0) (ty := .int) (sp := 0) (dp := 0) (N := 7) (h' := (hov h [(20, IA 8 (F 34)), (21, IA 7 (va_cpy (frX (F 35)) (frX (F0 35)) 0 0 7))])) q866 q359 q358 q61 ((hv_miss (by omega)).trans xs.2.2.1) ((hv_miss (by omega)).trans xd.2.2.1) rfl rfl (by decide) (by decide) (by decide) (by decide) (by decide) (by decide) (by decide) (by decide) (fun _ _ => rfl) dX1_takeFrom_30 (Nat.le_of_ble_eq_true rfl) (Nat.le_of_ble_eq_true rfl) (hov_set_miss (by omega) hov_set_nil) rfl ?_
  refine EW.arrI (h' := (hov h [(20, IA 8 (F 34)), (21, IA 7 (frX (F 35)))])) (a := 21) (frX (F 35)) rfl cpy7 (hov_up rfl) ?_
  refine ew_aload_n (t := 34) dX1_takeFrom_33 rfl rfl rfl ?_
  refine ew_get (t := 37) (j := 2) (v := .ref 5) fcX1 ((hv_miss (by omega)).trans ((hv_miss (by omega)).trans xs.1)) (Nat.le_of_ble_eq_true rfl) q130 rfl dX1_takeFrom_34 rfl ?_
  refine ew_ic0 (t := 38) dX1_takeFrom_37 rfl ?_
  refine ew_aload_n (t := 39) dX1_takeFrom_38 rfl rfl rfl ?_
  refine ew_get (t := 42) (j := 2) (v := .ref 22) fcX1 ((hv_miss (by omega)).trans ((hv_miss (by omega)).trans xd.1)) (Nat.le_of_ble_eq_true rfl) q130 rfl dX1_takeFrom_39 rfl ?_
  refine ew_ic0 (t := 43) dX1_takeFrom_42 rfl ?_
  refine ew_bipush (t := 45) (v := 7) dX1_takeFrom_43 (by decide) rfl ?_
  refine ew_copyI (t := 48) (K := 0) (ty := .int) (sp := 0) (dp := 0) (N := 7) (h' := (hov h [(20, IA 8 (F 34)), (21, IA 7 (frX (F 35))), (22, IA 7 (va_cpy (F 36) (F0 36) 0 0 7))])) q866 q359 q358 q61 ((hv_miss (by omega)).trans ((hv_miss (by omega)).trans xs.2.2.2.1)) ((hv_miss (by omega)).trans ((hv_miss (by omega)).trans xd.2.2.2.1)) rfl rfl (by decide) (by decide) (by decide) (by decide) (by decide) (by decide) (by decide) (by decide) (fun _ _ => rfl) dX1_takeFrom_45 (Nat.le_of_ble_eq_true rfl) (Nat.le_of_ble_eq_true rfl) (hov_set_miss (by omega) (hov_set_miss (by omega) hov_set_nil)) rfl ?_
  refine EW.arrI (h' := (hov h [(20, IA 8 (F 34)), (21, IA 7 (frX (F 35))), (22, IA 7 (F 36))])) (a := 22) (F 36) rfl cpy7 (hov_up rfl) ?_
  refine ew_aload_n (t := 49) dX1_takeFrom_48 rfl rfl rfl ?_
  refine ew_get (t := 52) (j := 3) (v := .ref 6) fcX1 ((hv_miss (by omega)).trans ((hv_miss (by omega)).trans ((hv_miss (by omega)).trans xs.1))) (Nat.le_of_ble_eq_true rfl) q132 rfl dX1_takeFrom_49 rfl ?_
  refine ew_ic0 (t := 53) dX1_takeFrom_52 rfl ?_
  refine ew_aload_n (t := 54) dX1_takeFrom_53 rfl rfl rfl ?_
  refine ew_get (t := 57) (j := 3) (v := .ref 23) fcX1 ((hv_miss (by omega)).trans ((hv_miss (by omega)).trans ((hv_miss (by omega)).trans xd.1))) (Nat.le_of_ble_eq_true rfl) q132 rfl dX1_takeFrom_54 rfl ?_
  refine ew_ic0 (t := 58) dX1_takeFrom_57 rfl ?_
  refine ew_sipush (t := 61) (v := 200) dX1_takeFrom_58 (by decide) rfl ?_
  refine ew_copyI (t := 64) (K := 1) (ty := .byte) (sp := 0) (dp := 0) (N := 200) (h' := (hov h [(20, IA 8 (F 34)), (21, IA 7 (frX (F 35))), (22, IA 7 (F 36)), (23, BA 200 (va_cpy (F 37) (F0 37) 0 0 200))])) q866 q359 q358 q61 ((hv_miss (by omega)).trans ((hv_miss (by omega)).trans ((hv_miss (by omega)).trans xs.2.2.2.2.1))) ((hv_miss (by omega)).trans ((hv_miss (by omega)).trans ((hv_miss (by omega)).trans xd.2.2.2.2.1))) rfl rfl (by decide) (by decide) (by decide) (by decide) (by decide) (by decide) (by decide) (by decide) (fun i hi => by rw [Nat.zero_add]; exact fb.1 i hi) dX1_takeFrom_61 (Nat.le_of_ble_eq_true rfl) (Nat.le_of_ble_eq_true rfl) (hov_set_miss (by omega) (hov_set_miss (by omega) (hov_set_miss (by omega) hov_set_nil))) rfl ?_
  refine EW.arrI (h' := (hov h [(20, IA 8 (F 34)), (21, IA 7 (frX (F 35))), (22, IA 7 (F 36)), (23, BA 200 (F 37))])) (a := 23) (F 37) rfl cpy7 (hov_up rfl) ?_
  refine ew_aload_n (t := 65) dX1_takeFrom_64 rfl rfl rfl ?_
  refine ew_get (t := 68) (j := 4) (v := .ref 7) fcX1 ((hv_miss (by omega)).trans ((hv_miss (by omega)).trans ((hv_miss (by omega)).trans ((hv_miss (by omega)).trans xs.1)))) (Nat.le_of_ble_eq_true rfl) q134 rfl dX1_takeFrom_65 rfl ?_
  refine ew_ic0 (t := 69) dX1_takeFrom_68 rfl ?_
  refine ew_aload_n (t := 70) dX1_takeFrom_69 rfl rfl rfl ?_
  refine ew_get (t := 73) (j := 4) (v := .ref 24) fcX1 ((hv_miss (by omega)).trans ((hv_miss (by omega)).trans ((hv_miss (by omega)).trans ((hv_miss (by omega)).trans xd.1)))) (Nat.le_of_ble_eq_true rfl) q134 rfl dX1_takeFrom_70 rfl ?_
  refine ew_ic0 (t := 74) dX1_takeFrom_73 rfl ?_
  refine ew_sipush (t := 77) (v := 200) dX1_takeFrom_74 (by decide) rfl ?_
  refine ew_copyI (t := 80) (K := 1) (ty := .byte) (sp := 0) (dp := 0) (N := 200) (h' := (hov h [(20, IA 8 (F 34)), (21, IA 7 (frX (F 35))), (22, IA 7 (F 36)), (23, BA 200 (F 37)), (24, BA 200 (va_cpy (F 38) (F0 38) 0 0 200))])) q866 q359 q358 q61 ((hv_miss (by omega)).trans ((hv_miss (by omega)).trans ((hv_miss (by omega)).trans ((hv_miss (by omega)).trans xs.2.2.2.2.2.1)))) ((hv_miss (by omega)).trans ((hv_miss (by omega)).trans ((hv_miss (by omega)).trans ((hv_miss (by omega)).trans xd.2.2.2.2.2.1)))) rfl rfl (by decide) (by decide) (by decide) (by decide) (by decide) (by decide) (by decide) (by decide) (fun i hi => by rw [Nat.zero_add]; exact fb.2.1 i hi) dX1_takeFrom_77 (Nat.le_of_ble_eq_true rfl) (Nat.le_of_ble_eq_true rfl) (hov_set_miss (by omega) (hov_set_miss (by omega) (hov_set_miss (by omega) (hov_set_miss (by omega) hov_set_nil)))) rfl ?_
  refine EW.arrI (h' := (hov h [(20, IA 8 (F 34)), (21, IA 7 (frX (F 35))), (22, IA 7 (F 36)), (23, BA 200 (F 37)), (24, BA 200 (F 38))])) (a := 24) (F 38) rfl cpy7 (hov_up rfl) ?_
  refine ew_aload_n (t := 81) dX1_takeFrom_80 rfl rfl rfl ?_
  refine ew_get (t := 84) (j := 5) (v := .ref 8) fcX1 ((hv_miss (by omega)).trans ((hv_miss (by omega)).trans ((hv_miss (by omega)).trans ((hv_miss (by omega)).trans ((hv_miss (by omega)).trans xs.1))))) (Nat.le_of_ble_eq_true rfl) q137 rfl dX1_takeFrom_81 rfl ?_
  refine ew_ic0 (t := 85) dX1_takeFrom_84 rfl ?_
  refine ew_aload_n (t := 86) dX1_takeFrom_85 rfl rfl rfl ?_
  refine ew_get (t := 89) (j := 5) (v := .ref 25) fcX1 ((hv_miss (by omega)).trans ((hv_miss (by omega)).trans ((hv_miss (by omega)).trans ((hv_miss (by omega)).trans ((hv_miss (by omega)).trans xd.1))))) (Nat.le_of_ble_eq_true rfl) q137 rfl dX1_takeFrom_86 rfl ?_
  refine ew_ic0 (t := 90) dX1_takeFrom_89 rfl ?_
  refine ew_bipush (t := 92) (v := 100) dX1_takeFrom_90 (by decide) rfl ?_
  refine ew_copyI (t := 95) (K := 1) (ty := .byte) (sp := 0) (dp := 0) (N := 100) (h' := (hov h [(20, IA 8 (F 34)), (21, IA 7 (frX (F 35))), (22, IA 7 (F 36)), (23, BA 200 (F 37)), (24, BA 200 (F 38)), (25, BA 100 (va_cpy (F 39) (F0 39) 0 0 100))])) q866 q359 q358 q61 ((hv_miss (by omega)).trans ((hv_miss (by omega)).trans ((hv_miss (by omega)).trans ((hv_miss (by omega)).trans ((hv_miss (by omega)).trans xs.2.2.2.2.2.2))))) ((hv_miss (by omega)).trans ((hv_miss (by omega)).trans ((hv_miss (by omega)).trans ((hv_miss (by omega)).trans ((hv_miss (by omega)).trans xd.2.2.2.2.2.2))))) rfl rfl (by decide) (by decide) (by decide) (by decide) (by decide) (by decide) (by decide) (by decide) (fun i hi => by rw [Nat.zero_add]; exact fb.2.2 i hi) dX1_takeFrom_92 (Nat.le_of_ble_eq_true rfl) (Nat.le_of_ble_eq_true rfl) (hov_set_miss (by omega) (hov_set_miss (by omega) (hov_set_miss (by omega) (hov_set_miss (by omega) (hov_set_miss (by omega) hov_set_nil))))) rfl ?_
  refine EW.arrI (h' := (hov h [(20, IA 8 (F 34)), (21, IA 7 (frX (F 35))), (22, IA 7 (F 36)), (23, BA 200 (F 37)), (24, BA 200 (F 38)), (25, BA 100 (F 39))])) (a := 25) (F 39) rfl cpy7 (hov_up rfl) ?_
  have lo : ∀ k, ¬ (19 + 1 ≤ k ∧ k ≤ 19 + 6) → (hov h [(20, IA 8 (F 34)), (21, IA 7 (frX (F 35))), (22, IA 7 (F 36)), (23, BA 200 (F 37)), (24, BA 200 (F 38)), (25, BA 100 (F 39))]) k = h k := fun k hk => (hv_miss (by omega)).trans ((hv_miss (by omega)).trans ((hv_miss (by omega)).trans ((hv_miss (by omega)).trans ((hv_miss (by omega)).trans (hv_miss (by omega))))))
  have x1 : XTd 19 F (hov h [(20, IA 8 (F 34)), (21, IA 7 (frX (F 35))), (22, IA 7 (F 36)), (23, BA 200 (F 37)), (24, BA 200 (F 38)), (25, BA 100 (F 39))]) := ⟨(lo 19 (by omega)).trans xd.1, rfl, rfl, rfl, rfl, rfl, rfl⟩
  have lp1 := lp.keep (h' := (hov h [(20, IA 8 (F 34)), (21, IA 7 (frX (F 35))), (22, IA 7 (F 36)), (23, BA 200 (F 37)), (24, BA 200 (F 38)), (25, BA 100 (F 39))])) (Nat.le_refl n) (lo 26 (by omega)) (fun _ _ => lo e (by omega)) (fun p vs p1 p2 p3 => lo p (by omega))
  have ld1 := ld.keep (h' := (hov h [(20, IA 8 (F 34)), (21, IA 7 (frX (F 35))), (22, IA 7 (F 36)), (23, BA 200 (F 37)), (24, BA 200 (F 38)), (25, BA 100 (F 39))])) (Nat.le_refl n) (lo 27 (by omega)) (fun _ _ => lo e2 (by omega)) (fun p vs p1 p2 p3 => lo p (by omega))
  have sp1 := sp.keep (h' := (hov h [(20, IA 8 (F 34)), (21, IA 7 (frX (F 35))), (22, IA 7 (F 36)), (23, BA 200 (F 37)), (24, BA 200 (F 38)), (25, BA 100 (F 39))])) (Nat.le_refl n) (lo 9 (by omega)) (fun _ _ => lo e3 (by omega)) (fun p vs p1 p2 p3 => lo p (by omega))
  have sd1 := sd.keep (h' := (hov h [(20, IA 8 (F 34)), (21, IA 7 (frX (F 35))), (22, IA 7 (F 36)), (23, BA 200 (F 37)), (24, BA 200 (F 38)), (25, BA 100 (F 39))])) (Nat.le_refl n) (lo 10 (by omega)) (fun _ _ => lo e4 (by omega)) (fun p vs p1 p2 p3 => lo p (by omega))
  obtain ⟨h2, a2, lp2, k2⟩ := lp1.clear (by omega)
  have ld2 := ld1.keep (h' := h2) (Nat.le_refl n) (k2 27 (by omega) (by omega)) (fun q1 _ => k2 e2 (by omega) (fun z => ne12 z.2 z.1.symm)) (fun p vs p1 p2 p3 => k2 p (by omega) (lp1.ne p3))
  have sp2 := sp1.keep (h' := h2) (Nat.le_refl n) (k2 9 (by omega) (by omega)) (fun q1 _ => k2 e3 (by omega) (fun z => ne13 z.2 z.1.symm)) (fun p vs p1 p2 p3 => k2 p (by omega) (lp1.ne p3))
  have sd2 := sd1.keep (h' := h2) (Nat.le_refl n) (k2 10 (by omega) (by omega)) (fun q1 _ => k2 e4 (by omega) (fun z => ne14 z.2 z.1.symm)) (fun p vs p1 p2 p3 => k2 p (by omega) (lp1.ne p3))
  obtain ⟨r3, h3, n3, a3, n23, ⟨mo3, e5, lp3, o5⟩, k3⟩ := LSe.addAll (c := 26) (d := 9) hn (by omega) (by omega) (by omega) (lp2 O1) sp2 ne13 fcX9.1 q1422
  have ld3 := ld2.keep (h' := h3) n23 (k3 27 (by omega) (by omega) (by omega)) (fun q1 q2 => k3 e2 q2 (by omega) (fun z => ne12 z.2 z.1.symm)) (fun p vs p1 p2 p3 => k3 p p2 (by omega) ((lp2 O1).ne p3))
  have sd3 := sd2.keep (h' := h3) n23 (k3 10 (by omega) (by omega) (by omega)) (fun q1 q2 => k3 e4 q2 (by omega) (fun z => ne14 z.2 z.1.symm)) (fun p vs p1 p2 p3 => k3 p p2 (by omega) ((lp2 O1).ne p3))
  obtain ⟨h4, a4, ld4, k4⟩ := ld3.clear (by omega)
  have ne52 : 63 ≤ e2 → ¬ e5 = e2 := by
    intro q1 q2
    have := ld.lo q1
    rcases o5 with o5 | o5
    · exact ne12 (by omega) (by omega)
    · omega
  have lp4 := lp3.keep (h' := h4) (Nat.le_refl n3) (k4 26 (by omega) (by omega)) (fun q1 _ => k4 e5 (by omega) (fun z => ne52 z.2 z.1)) (fun p vs p1 p2 p3 => k4 p (by omega) (ld3.ne p3))
  have sd4 := sd3.keep (h' := h4) (Nat.le_refl n3) (k4 10 (by omega) (by omega)) (fun q1 _ => k4 e4 (by omega) (fun z => ne24 z.2 z.1.symm)) (fun p vs p1 p2 p3 => k4 p (by omega) (ld3.ne p3))
  obtain ⟨r5, h5, n5, a5, n35, ⟨md5, e6, ld5, o6⟩, k5⟩ := LSe.addAll (c := 27) (d := 10) (Nat.le_trans hn n23) (by omega) (by omega) (by omega) (ld4 O2) sd4 ne24 fcX10.1 q1423
  have lo5 := lp3.lo
  have lp5 := lp4.keep (h' := h5) n35 (k5 26 (by omega) (by omega) (by omega)) (fun q1 q2 => k5 e5 q2 (by omega) (fun z => ne52 z.2 z.1)) (fun p vs p1 p2 p3 => k5 p p2 (by omega) ((ld4 O2).ne p3))
  refine ew_aload_n (t := 96) dX1_takeFrom_95 rfl rfl rfl ?_
  refine ew_get (t := 99) (j := 6) (v := .ref 26) fcX1 (x1.1) (Nat.le_of_ble_eq_true rfl) q139 rfl dX1_takeFrom_96 rfl ?_
  refine ew_callF (t := 104) (As := []) (a2 l G n) (fcJ2).1 lp1.2.1 (lw_F q868 q724 q726 q55 q728) fw_clear naI_J2_clear dX1_takeFrom_99 rfl (Nat.le_of_ble_eq_true rfl) (Nat.le_of_ble_eq_true rfl) (by omega) (by omega) (Nat.le_of_ble_eq_true rfl) rfl (qv ?_)
  refine ew_aload_n (t := 105) dX1_takeFrom_104 rfl rfl rfl ?_
  refine ew_get (t := 108) (j := 6) (v := .ref 26) fcX1 ((k2 19 (by omega) (by omega)).trans x1.1) (Nat.le_of_ble_eq_true rfl) q139 rfl dX1_takeFrom_105 rfl ?_
  refine ew_aload_n (t := 109) dX1_takeFrom_108 rfl rfl rfl ?_
  refine ew_get (t := 112) (j := 6) (v := .ref 9) fcX1 ((k2 2 (by omega) (by omega)).trans ((lo 2 (by omega)).trans xs.1)) (Nat.le_of_ble_eq_true rfl) q139 rfl dX1_takeFrom_109 rfl ?_
  refine ew_callF (t := 117) (As := [_]) (a3 l G) (fcJ2).1 (lp2 O1).2.1 (lw_F q870 q873 q875 q55 q877) fw_addAll naI_J2_addAll dX1_takeFrom_112 rfl (Nat.le_of_ble_eq_true rfl) (Nat.le_of_ble_eq_true rfl) (by omega) (by omega) (Nat.le_of_ble_eq_true rfl) rfl (qi ?_)
  refine ew_pop (t := 118) dX1_takeFrom_117 rfl rfl ?_
  refine ew_aload_n (t := 119) dX1_takeFrom_118 rfl rfl rfl ?_
  refine ew_get (t := 122) (j := 7) (v := .ref 27) fcX1 ((k3 19 (by omega) (by omega) (by omega)).trans ((k2 19 (by omega) (by omega)).trans x1.1)) (Nat.le_of_ble_eq_true rfl) q141 rfl dX1_takeFrom_119 rfl ?_
  refine ew_callF (t := 127) (As := []) (a4 l G n3) (fcJ2).1 ld3.2.1 (lw_F q868 q724 q726 q55 q728) fw_clear naI_J2_clear dX1_takeFrom_122 rfl (Nat.le_of_ble_eq_true rfl) (Nat.le_of_ble_eq_true rfl) (by omega) (by omega) (Nat.le_of_ble_eq_true rfl) rfl (qv ?_)
  refine ew_aload_n (t := 128) dX1_takeFrom_127 rfl rfl rfl ?_
  refine ew_get (t := 131) (j := 7) (v := .ref 27) fcX1 ((k4 19 (by omega) (by omega)).trans ((k3 19 (by omega) (by omega) (by omega)).trans ((k2 19 (by omega) (by omega)).trans x1.1))) (Nat.le_of_ble_eq_true rfl) q141 rfl dX1_takeFrom_128 rfl ?_
  refine ew_aload_n (t := 132) dX1_takeFrom_131 rfl rfl rfl ?_
  refine ew_get (t := 135) (j := 7) (v := .ref 10) fcX1 ((k4 2 (by omega) (by omega)).trans ((k3 2 (by omega) (by omega) (by omega)).trans ((k2 2 (by omega) (by omega)).trans ((lo 2 (by omega)).trans xs.1)))) (Nat.le_of_ble_eq_true rfl) q141 rfl dX1_takeFrom_132 rfl ?_
  refine ew_callF (t := 140) (As := [_]) (a5 l G) (fcJ2).1 (ld4 O2).2.1 (lw_F q870 q873 q875 q55 q877) fw_addAll naI_J2_addAll dX1_takeFrom_135 rfl (Nat.le_of_ble_eq_true rfl) (Nat.le_of_ble_eq_true rfl) (by omega) (by omega) (Nat.le_of_ble_eq_true rfl) rfl (qi ?_)
  refine ew_pop (t := 141) dX1_takeFrom_140 rfl rfl ?_
  exact ew_vret rfl dX1_takeFrom_141 (by decide) (by decide) ⟨rfl, Nat.le_trans n23 n35, ⟨(k5 19 (by omega) (by omega) (by omega)).trans ((k4 19 (by omega) (by omega)).trans ((k3 19 (by omega) (by omega) (by omega)).trans ((k2 19 (by omega) (by omega)).trans x1.1))), (k5 20 (by omega) (by omega) (by omega)).trans ((k4 20 (by omega) (by omega)).trans ((k3 20 (by omega) (by omega) (by omega)).trans ((k2 20 (by omega) (by omega)).trans x1.2.1))), (k5 21 (by omega) (by omega) (by omega)).trans ((k4 21 (by omega) (by omega)).trans ((k3 21 (by omega) (by omega) (by omega)).trans ((k2 21 (by omega) (by omega)).trans x1.2.2.1))), (k5 22 (by omega) (by omega) (by omega)).trans ((k4 22 (by omega) (by omega)).trans ((k3 22 (by omega) (by omega) (by omega)).trans ((k2 22 (by omega) (by omega)).trans x1.2.2.2.1))), (k5 23 (by omega) (by omega) (by omega)).trans ((k4 23 (by omega) (by omega)).trans ((k3 23 (by omega) (by omega) (by omega)).trans ((k2 23 (by omega) (by omega)).trans x1.2.2.2.2.1))), (k5 24 (by omega) (by omega) (by omega)).trans ((k4 24 (by omega) (by omega)).trans ((k3 24 (by omega) (by omega) (by omega)).trans ((k2 24 (by omega) (by omega)).trans x1.2.2.2.2.2.1))), (k5 25 (by omega) (by omega) (by omega)).trans ((k4 25 (by omega) (by omega)).trans ((k3 25 (by omega) (by omega) (by omega)).trans ((k2 25 (by omega) (by omega)).trans x1.2.2.2.2.2.2)))⟩, ⟨mo3, md5, e5, e6, lp5, ld5, o5, o6.imp id (fun q => Nat.le_trans n23 q), fun q1 q2 => o6.elim (fun o => ne52 (by omega) (by omega)) (fun o => by have := lo5 (by omega); omega)⟩, fun k q1 q2 q3 q4 => (k5 k (by omega) (by omega) q4).trans ((k4 k (by omega) q4).trans ((k3 k q1 (by omega) q3).trans ((k2 k (by omega) q3).trans (lo k (by omega)))))⟩
set_option maxHeartbeats 600000 in
theorem ax_take2 {l : Launch} {G : GW} {h : AH} {n : Nat} {F F0 : Nat → Nat → Int32} {np nd np0 nd0 e e2 e3 e4 : Nat} {mo md m3 m4 : Int32} {O1 O2 O3 O4 : Nat → List Value} (hn : 63 ≤ n) (xd : XTd 2 F0 h) (xs : XTd 19 F h) (fb : byF F) (lp : LSe h n 9 8 np0 O3 mo e) (ld : LSe h n 10 9 nd0 O4 md e2) (sp : LSe h n 26 8 np O1 m3 e3) (sd : LSe h n 27 9 nd O2 m4 e4) (ne12 : 63 ≤ e → ¬ e = e2) (ne13 : 63 ≤ e → ¬ e = e3) (ne14 : 63 ≤ e → ¬ e = e4) (ne23 : 63 ≤ e2 → ¬ e2 = e3) (ne24 : 63 ≤ e2 → ¬ e2 = e4) : AM l G yX1_takeFrom cX1_takeFrom 2 none 8 4 40 [.ref 2, .ref 19] h n (TKQ 2 F h n np nd e e2 O1 O2) := by
  refine AM.of (L := [some (.ref 2), some (.ref 19)]) (by decide) (Nat.le_of_ble_eq_true rfl) rfl ?_
  refine ew_aload_n (t := 1) dX1_takeFrom_0 rfl rfl rfl ?_
  refine ew_get (t := 4) (j := 0) (v := .ref 20) fcX1 xs.1 (Nat.le_of_ble_eq_true rfl) q125 rfl dX1_takeFrom_1 rfl ?_
  refine ew_ic0 (t := 5) dX1_takeFrom_4 rfl ?_
  refine ew_aload_n (t := 6) dX1_takeFrom_5 rfl rfl rfl ?_
  refine ew_get (t := 9) (j := 0) (v := .ref 3) fcX1 xd.1 (Nat.le_of_ble_eq_true rfl) q125 rfl dX1_takeFrom_6 rfl ?_
  refine ew_ic0 (t := 10) dX1_takeFrom_9 rfl ?_
  refine ew_aload_n (t := 11) dX1_takeFrom_10 rfl rfl rfl ?_
  refine ew_get (t := 14) (j := 0) (v := .ref 3) fcX1 xd.1 (Nat.le_of_ble_eq_true rfl) q125 rfl dX1_takeFrom_11 rfl ?_
  refine ew_alen (t := 15) (v := 8) xd.2.1 (Nat.le_of_ble_eq_true rfl) rfl dX1_takeFrom_14 rfl ?_
  refine ew_copyI (t := 18) (K := 0) (ty := .int) (sp := 0) (dp := 0) (N := 8) (h' := (hov h [(3, IA 8 (va_cpy (F 34) (F0 34) 0 0 8))])) q866 q359 q358 q61 xs.2.1 xd.2.1 rfl rfl (by decide) (by decide) (by decide) (by decide) (by decide) (by decide) (by decide) (by decide) (fun _ _ => rfl) dX1_takeFrom_15 (Nat.le_of_ble_eq_true rfl) (Nat.le_of_ble_eq_true rfl) hov_up0 rfl ?_
  refine EW.arrI (h' := (hov h [(3, IA 8 (F 34))])) (a := 3) (F 34) rfl cpy7 (hov_up rfl) ?_
  refine ew_aload_n (t := 19) dX1_takeFrom_18 rfl rfl rfl ?_
  refine ew_get (t := 22) (j := 1) (v := .ref 21) fcX1 ((hv_miss (by omega)).trans xs.1) (Nat.le_of_ble_eq_true rfl) q128 rfl dX1_takeFrom_19 rfl ?_
  refine ew_ic0 (t := 23) dX1_takeFrom_22 rfl ?_
  refine ew_aload_n (t := 24) dX1_takeFrom_23 rfl rfl rfl ?_
  refine ew_get (t := 27) (j := 1) (v := .ref 4) fcX1 ((hv_miss (by omega)).trans xd.1) (Nat.le_of_ble_eq_true rfl) q128 rfl dX1_takeFrom_24 rfl ?_
  refine ew_ic0 (t := 28) dX1_takeFrom_27 rfl ?_
  refine ew_bipush (t := 30) (v := 7) dX1_takeFrom_28 (by decide) rfl ?_
  refine ew_copyI (t := 33) (K := 0) (ty := .int) (sp := 0) (dp := 0) (N := 7) (h' := (hov h [(3, IA 8 (F 34)), (4, IA 7 (va_cpy (frX (F 35)) (frX (F0 35)) 0 0 7))])) q866 q359 q358 q61 ((hv_miss (by omega)).trans xs.2.2.1) ((hv_miss (by omega)).trans xd.2.2.1) rfl rfl (by decide) (by decide) (by decide) (by decide) (by decide) (by decide) (by decide) (by decide) (fun _ _ => rfl) dX1_takeFrom_30 (Nat.le_of_ble_eq_true rfl) (Nat.le_of_ble_eq_true rfl) (hov_set_miss (by omega) hov_set_nil) rfl ?_
  refine EW.arrI (h' := (hov h [(3, IA 8 (F 34)), (4, IA 7 (frX (F 35)))])) (a := 4) (frX (F 35)) rfl cpy7 (hov_up rfl) ?_
  refine ew_aload_n (t := 34) dX1_takeFrom_33 rfl rfl rfl ?_
  refine ew_get (t := 37) (j := 2) (v := .ref 22) fcX1 ((hv_miss (by omega)).trans ((hv_miss (by omega)).trans xs.1)) (Nat.le_of_ble_eq_true rfl) q130 rfl dX1_takeFrom_34 rfl ?_
  refine ew_ic0 (t := 38) dX1_takeFrom_37 rfl ?_
  refine ew_aload_n (t := 39) dX1_takeFrom_38 rfl rfl rfl ?_
  refine ew_get (t := 42) (j := 2) (v := .ref 5) fcX1 ((hv_miss (by omega)).trans ((hv_miss (by omega)).trans xd.1)) (Nat.le_of_ble_eq_true rfl) q130 rfl dX1_takeFrom_39 rfl ?_
  refine ew_ic0 (t := 43) dX1_takeFrom_42 rfl ?_
  refine ew_bipush (t := 45) (v := 7) dX1_takeFrom_43 (by decide) rfl ?_
  refine ew_copyI (t := 48) (K := 0) (ty := .int) (sp := 0) (dp := 0) (N := 7) (h' := (hov h [(3, IA 8 (F 34)), (4, IA 7 (frX (F 35))), (5, IA 7 (va_cpy (F 36) (F0 36) 0 0 7))])) q866 q359 q358 q61 ((hv_miss (by omega)).trans ((hv_miss (by omega)).trans xs.2.2.2.1)) ((hv_miss (by omega)).trans ((hv_miss (by omega)).trans xd.2.2.2.1)) rfl rfl (by decide) (by decide) (by decide) (by decide) (by decide) (by decide) (by decide) (by decide) (fun _ _ => rfl) dX1_takeFrom_45 (Nat.le_of_ble_eq_true rfl) (Nat.le_of_ble_eq_true rfl) (hov_set_miss (by omega) (hov_set_miss (by omega) hov_set_nil)) rfl ?_
  refine EW.arrI (h' := (hov h [(3, IA 8 (F 34)), (4, IA 7 (frX (F 35))), (5, IA 7 (F 36))])) (a := 5) (F 36) rfl cpy7 (hov_up rfl) ?_
  refine ew_aload_n (t := 49) dX1_takeFrom_48 rfl rfl rfl ?_
  refine ew_get (t := 52) (j := 3) (v := .ref 23) fcX1 ((hv_miss (by omega)).trans ((hv_miss (by omega)).trans ((hv_miss (by omega)).trans xs.1))) (Nat.le_of_ble_eq_true rfl) q132 rfl dX1_takeFrom_49 rfl ?_
  refine ew_ic0 (t := 53) dX1_takeFrom_52 rfl ?_
  refine ew_aload_n (t := 54) dX1_takeFrom_53 rfl rfl rfl ?_
  refine ew_get (t := 57) (j := 3) (v := .ref 6) fcX1 ((hv_miss (by omega)).trans ((hv_miss (by omega)).trans ((hv_miss (by omega)).trans xd.1))) (Nat.le_of_ble_eq_true rfl) q132 rfl dX1_takeFrom_54 rfl ?_
  refine ew_ic0 (t := 58) dX1_takeFrom_57 rfl ?_
  refine ew_sipush (t := 61) (v := 200) dX1_takeFrom_58 (by decide) rfl ?_
  refine ew_copyI (t := 64) (K := 1) (ty := .byte) (sp := 0) (dp := 0) (N := 200) (h' := (hov h [(3, IA 8 (F 34)), (4, IA 7 (frX (F 35))), (5, IA 7 (F 36)), (6, BA 200 (va_cpy (F 37) (F0 37) 0 0 200))])) q866 q359 q358 q61 ((hv_miss (by omega)).trans ((hv_miss (by omega)).trans ((hv_miss (by omega)).trans xs.2.2.2.2.1))) ((hv_miss (by omega)).trans ((hv_miss (by omega)).trans ((hv_miss (by omega)).trans xd.2.2.2.2.1))) rfl rfl (by decide) (by decide) (by decide) (by decide) (by decide) (by decide) (by decide) (by decide) (fun i hi => by rw [Nat.zero_add]; exact fb.1 i hi) dX1_takeFrom_61 (Nat.le_of_ble_eq_true rfl) (Nat.le_of_ble_eq_true rfl) (hov_set_miss (by omega) (hov_set_miss (by omega) (hov_set_miss (by omega) hov_set_nil))) rfl ?_
  refine EW.arrI (h' := (hov h [(3, IA 8 (F 34)), (4, IA 7 (frX (F 35))), (5, IA 7 (F 36)), (6, BA 200 (F 37))])) (a := 6) (F 37) rfl cpy7 (hov_up rfl) ?_
  refine ew_aload_n (t := 65) dX1_takeFrom_64 rfl rfl rfl ?_
  refine ew_get (t := 68) (j := 4) (v := .ref 24) fcX1 ((hv_miss (by omega)).trans ((hv_miss (by omega)).trans ((hv_miss (by omega)).trans ((hv_miss (by omega)).trans xs.1)))) (Nat.le_of_ble_eq_true rfl) q134 rfl dX1_takeFrom_65 rfl ?_
  refine ew_ic0 (t := 69) dX1_takeFrom_68 rfl ?_
  refine ew_aload_n (t := 70) dX1_takeFrom_69 rfl rfl rfl ?_
  refine ew_get (t := 73) (j := 4) (v := .ref 7) fcX1 ((hv_miss (by omega)).trans ((hv_miss (by omega)).trans ((hv_miss (by omega)).trans ((hv_miss (by omega)).trans xd.1)))) (Nat.le_of_ble_eq_true rfl) q134 rfl dX1_takeFrom_70 rfl ?_
  refine ew_ic0 (t := 74) dX1_takeFrom_73 rfl ?_
  refine ew_sipush (t := 77) (v := 200) dX1_takeFrom_74 (by decide) rfl ?_
  refine ew_copyI (t := 80) (K := 1) (ty := .byte) (sp := 0) (dp := 0) (N := 200) (h' := (hov h [(3, IA 8 (F 34)), (4, IA 7 (frX (F 35))), (5, IA 7 (F 36)), (6, BA 200 (F 37)), (7, BA 200 (va_cpy (F 38) (F0 38) 0 0 200))])) q866 q359 q358 q61 ((hv_miss (by omega)).trans ((hv_miss (by omega)).trans ((hv_miss (by omega)).trans ((hv_miss (by omega)).trans xs.2.2.2.2.2.1)))) ((hv_miss (by omega)).trans ((hv_miss (by omega)).trans ((hv_miss (by omega)).trans ((hv_miss (by omega)).trans xd.2.2.2.2.2.1)))) rfl rfl (by decide) (by decide) (by decide) (by decide) (by decide) (by decide) (by decide) (by decide) (fun i hi => by rw [Nat.zero_add]; exact fb.2.1 i hi) dX1_takeFrom_77 (Nat.le_of_ble_eq_true rfl) (Nat.le_of_ble_eq_true rfl) (hov_set_miss (by omega) (hov_set_miss (by omega) (hov_set_miss (by omega) (hov_set_miss (by omega) hov_set_nil)))) rfl ?_
  refine EW.arrI (h' := (hov h [(3, IA 8 (F 34)), (4, IA 7 (frX (F 35))), (5, IA 7 (F 36)), (6, BA 200 (F 37)), (7, BA 200 (F 38))])) (a := 7) (F 38) rfl cpy7 (hov_up rfl) ?_
  refine ew_aload_n (t := 81) dX1_takeFrom_80 rfl rfl rfl ?_
  refine ew_get (t := 84) (j := 5) (v := .ref 25) fcX1 ((hv_miss (by omega)).trans ((hv_miss (by omega)).trans ((hv_miss (by omega)).trans ((hv_miss (by omega)).trans ((hv_miss (by omega)).trans xs.1))))) (Nat.le_of_ble_eq_true rfl) q137 rfl dX1_takeFrom_81 rfl ?_
  refine ew_ic0 (t := 85) dX1_takeFrom_84 rfl ?_
  refine ew_aload_n (t := 86) dX1_takeFrom_85 rfl rfl rfl ?_
  refine ew_get (t := 89) (j := 5) (v := .ref 8) fcX1 ((hv_miss (by omega)).trans ((hv_miss (by omega)).trans ((hv_miss (by omega)).trans ((hv_miss (by omega)).trans ((hv_miss (by omega)).trans xd.1))))) (Nat.le_of_ble_eq_true rfl) q137 rfl dX1_takeFrom_86 rfl ?_
  refine ew_ic0 (t := 90) dX1_takeFrom_89 rfl ?_
  refine ew_bipush (t := 92) (v := 100) dX1_takeFrom_90 (by decide) rfl ?_
  refine ew_copyI (t := 95) (K := 1) (ty := .byte) (sp := 0) (dp := 0) (N := 100) (h' := (hov h [(3, IA 8 (F 34)), (4, IA 7 (frX (F 35))), (5, IA 7 (F 36)), (6, BA 200 (F 37)), (7, BA 200 (F 38)), (8, BA 100 (va_cpy (F 39) (F0 39) 0 0 100))])) q866 q359 q358 q61 ((hv_miss (by omega)).trans ((hv_miss (by omega)).trans ((hv_miss (by omega)).trans ((hv_miss (by omega)).trans ((hv_miss (by omega)).trans xs.2.2.2.2.2.2))))) ((hv_miss (by omega)).trans ((hv_miss (by omega)).trans ((hv_miss (by omega)).trans ((hv_miss (by omega)).trans ((hv_miss (by omega)).trans xd.2.2.2.2.2.2))))) rfl rfl (by decide) (by decide) (by decide) (by decide) (by decide) (by decide) (by decide) (by decide) (fun i hi => by rw [Nat.zero_add]; exact fb.2.2 i hi) dX1_takeFrom_92 (Nat.le_of_ble_eq_true rfl) (Nat.le_of_ble_eq_true rfl) (hov_set_miss (by omega) (hov_set_miss (by omega) (hov_set_miss (by omega) (hov_set_miss (by omega) (hov_set_miss (by omega) hov_set_nil))))) rfl ?_
  refine EW.arrI (h' := (hov h [(3, IA 8 (F 34)), (4, IA 7 (frX (F 35))), (5, IA 7 (F 36)), (6, BA 200 (F 37)), (7, BA 200 (F 38)), (8, BA 100 (F 39))])) (a := 8) (F 39) rfl cpy7 (hov_up rfl) ?_
  have lo : ∀ k, ¬ (2 + 1 ≤ k ∧ k ≤ 2 + 6) → (hov h [(3, IA 8 (F 34)), (4, IA 7 (frX (F 35))), (5, IA 7 (F 36)), (6, BA 200 (F 37)), (7, BA 200 (F 38)), (8, BA 100 (F 39))]) k = h k := fun k hk => (hv_miss (by omega)).trans ((hv_miss (by omega)).trans ((hv_miss (by omega)).trans ((hv_miss (by omega)).trans ((hv_miss (by omega)).trans (hv_miss (by omega))))))
  have x1 : XTd 2 F (hov h [(3, IA 8 (F 34)), (4, IA 7 (frX (F 35))), (5, IA 7 (F 36)), (6, BA 200 (F 37)), (7, BA 200 (F 38)), (8, BA 100 (F 39))]) := ⟨(lo 2 (by omega)).trans xd.1, rfl, rfl, rfl, rfl, rfl, rfl⟩
  have lp1 := lp.keep (h' := (hov h [(3, IA 8 (F 34)), (4, IA 7 (frX (F 35))), (5, IA 7 (F 36)), (6, BA 200 (F 37)), (7, BA 200 (F 38)), (8, BA 100 (F 39))])) (Nat.le_refl n) (lo 9 (by omega)) (fun _ _ => lo e (by omega)) (fun p vs p1 p2 p3 => lo p (by omega))
  have ld1 := ld.keep (h' := (hov h [(3, IA 8 (F 34)), (4, IA 7 (frX (F 35))), (5, IA 7 (F 36)), (6, BA 200 (F 37)), (7, BA 200 (F 38)), (8, BA 100 (F 39))])) (Nat.le_refl n) (lo 10 (by omega)) (fun _ _ => lo e2 (by omega)) (fun p vs p1 p2 p3 => lo p (by omega))
  have sp1 := sp.keep (h' := (hov h [(3, IA 8 (F 34)), (4, IA 7 (frX (F 35))), (5, IA 7 (F 36)), (6, BA 200 (F 37)), (7, BA 200 (F 38)), (8, BA 100 (F 39))])) (Nat.le_refl n) (lo 26 (by omega)) (fun _ _ => lo e3 (by omega)) (fun p vs p1 p2 p3 => lo p (by omega))
  have sd1 := sd.keep (h' := (hov h [(3, IA 8 (F 34)), (4, IA 7 (frX (F 35))), (5, IA 7 (F 36)), (6, BA 200 (F 37)), (7, BA 200 (F 38)), (8, BA 100 (F 39))])) (Nat.le_refl n) (lo 27 (by omega)) (fun _ _ => lo e4 (by omega)) (fun p vs p1 p2 p3 => lo p (by omega))
  obtain ⟨h2, a2, lp2, k2⟩ := lp1.clear (by omega)
  have ld2 := ld1.keep (h' := h2) (Nat.le_refl n) (k2 10 (by omega) (by omega)) (fun q1 _ => k2 e2 (by omega) (fun z => ne12 z.2 z.1.symm)) (fun p vs p1 p2 p3 => k2 p (by omega) (lp1.ne p3))
  have sp2 := sp1.keep (h' := h2) (Nat.le_refl n) (k2 26 (by omega) (by omega)) (fun q1 _ => k2 e3 (by omega) (fun z => ne13 z.2 z.1.symm)) (fun p vs p1 p2 p3 => k2 p (by omega) (lp1.ne p3))
  have sd2 := sd1.keep (h' := h2) (Nat.le_refl n) (k2 27 (by omega) (by omega)) (fun q1 _ => k2 e4 (by omega) (fun z => ne14 z.2 z.1.symm)) (fun p vs p1 p2 p3 => k2 p (by omega) (lp1.ne p3))
  obtain ⟨r3, h3, n3, a3, n23, ⟨mo3, e5, lp3, o5⟩, k3⟩ := LSe.addAll (c := 9) (d := 26) hn (by omega) (by omega) (by omega) (lp2 O1) sp2 ne13 fcX9.1 q1422
  have ld3 := ld2.keep (h' := h3) n23 (k3 10 (by omega) (by omega) (by omega)) (fun q1 q2 => k3 e2 q2 (by omega) (fun z => ne12 z.2 z.1.symm)) (fun p vs p1 p2 p3 => k3 p p2 (by omega) ((lp2 O1).ne p3))
  have sd3 := sd2.keep (h' := h3) n23 (k3 27 (by omega) (by omega) (by omega)) (fun q1 q2 => k3 e4 q2 (by omega) (fun z => ne14 z.2 z.1.symm)) (fun p vs p1 p2 p3 => k3 p p2 (by omega) ((lp2 O1).ne p3))
  obtain ⟨h4, a4, ld4, k4⟩ := ld3.clear (by omega)
  have ne52 : 63 ≤ e2 → ¬ e5 = e2 := by
    intro q1 q2
    have := ld.lo q1
    rcases o5 with o5 | o5
    · exact ne12 (by omega) (by omega)
    · omega
  have lp4 := lp3.keep (h' := h4) (Nat.le_refl n3) (k4 9 (by omega) (by omega)) (fun q1 _ => k4 e5 (by omega) (fun z => ne52 z.2 z.1)) (fun p vs p1 p2 p3 => k4 p (by omega) (ld3.ne p3))
  have sd4 := sd3.keep (h' := h4) (Nat.le_refl n3) (k4 27 (by omega) (by omega)) (fun q1 _ => k4 e4 (by omega) (fun z => ne24 z.2 z.1.symm)) (fun p vs p1 p2 p3 => k4 p (by omega) (ld3.ne p3))
  obtain ⟨r5, h5, n5, a5, n35, ⟨md5, e6, ld5, o6⟩, k5⟩ := LSe.addAll (c := 10) (d := 27) (Nat.le_trans hn n23) (by omega) (by omega) (by omega) (ld4 O2) sd4 ne24 fcX10.1 q1423
  have lo5 := lp3.lo
  have lp5 := lp4.keep (h' := h5) n35 (k5 9 (by omega) (by omega) (by omega)) (fun q1 q2 => k5 e5 q2 (by omega) (fun z => ne52 z.2 z.1)) (fun p vs p1 p2 p3 => k5 p p2 (by omega) ((ld4 O2).ne p3))
  refine ew_aload_n (t := 96) dX1_takeFrom_95 rfl rfl rfl ?_
  refine ew_get (t := 99) (j := 6) (v := .ref 9) fcX1 (x1.1) (Nat.le_of_ble_eq_true rfl) q139 rfl dX1_takeFrom_96 rfl ?_
  refine ew_callF (t := 104) (As := []) (a2 l G n) (fcJ2).1 lp1.2.1 (lw_F q868 q724 q726 q55 q728) fw_clear naI_J2_clear dX1_takeFrom_99 rfl (Nat.le_of_ble_eq_true rfl) (Nat.le_of_ble_eq_true rfl) (by omega) (by omega) (Nat.le_of_ble_eq_true rfl) rfl (qv ?_)
  refine ew_aload_n (t := 105) dX1_takeFrom_104 rfl rfl rfl ?_
  refine ew_get (t := 108) (j := 6) (v := .ref 9) fcX1 ((k2 2 (by omega) (by omega)).trans x1.1) (Nat.le_of_ble_eq_true rfl) q139 rfl dX1_takeFrom_105 rfl ?_
  refine ew_aload_n (t := 109) dX1_takeFrom_108 rfl rfl rfl ?_
  refine ew_get (t := 112) (j := 6) (v := .ref 26) fcX1 ((k2 19 (by omega) (by omega)).trans ((lo 19 (by omega)).trans xs.1)) (Nat.le_of_ble_eq_true rfl) q139 rfl dX1_takeFrom_109 rfl ?_
  refine ew_callF (t := 117) (As := [_]) (a3 l G) (fcJ2).1 (lp2 O1).2.1 (lw_F q870 q873 q875 q55 q877) fw_addAll naI_J2_addAll dX1_takeFrom_112 rfl (Nat.le_of_ble_eq_true rfl) (Nat.le_of_ble_eq_true rfl) (by omega) (by omega) (Nat.le_of_ble_eq_true rfl) rfl (qi ?_)
  refine ew_pop (t := 118) dX1_takeFrom_117 rfl rfl ?_
  refine ew_aload_n (t := 119) dX1_takeFrom_118 rfl rfl rfl ?_
  refine ew_get (t := 122) (j := 7) (v := .ref 10) fcX1 ((k3 2 (by omega) (by omega) (by omega)).trans ((k2 2 (by omega) (by omega)).trans x1.1)) (Nat.le_of_ble_eq_true rfl) q141 rfl dX1_takeFrom_119 rfl ?_
  refine ew_callF (t := 127) (As := []) (a4 l G n3) (fcJ2).1 ld3.2.1 (lw_F q868 q724 q726 q55 q728) fw_clear naI_J2_clear dX1_takeFrom_122 rfl (Nat.le_of_ble_eq_true rfl) (Nat.le_of_ble_eq_true rfl) (by omega) (by omega) (Nat.le_of_ble_eq_true rfl) rfl (qv ?_)
  refine ew_aload_n (t := 128) dX1_takeFrom_127 rfl rfl rfl ?_
  refine ew_get (t := 131) (j := 7) (v := .ref 10) fcX1 ((k4 2 (by omega) (by omega)).trans ((k3 2 (by omega) (by omega) (by omega)).trans ((k2 2 (by omega) (by omega)).trans x1.1))) (Nat.le_of_ble_eq_true rfl) q141 rfl dX1_takeFrom_128 rfl ?_
  refine ew_aload_n (t := 132) dX1_takeFrom_131 rfl rfl rfl ?_
  refine ew_get (t := 135) (j := 7) (v := .ref 27) fcX1 ((k4 19 (by omega) (by omega)).trans ((k3 19 (by omega) (by omega) (by omega)).trans ((k2 19 (by omega) (by omega)).trans ((lo 19 (by omega)).trans xs.1)))) (Nat.le_of_ble_eq_true rfl) q141 rfl dX1_takeFrom_132 rfl ?_
  refine ew_callF (t := 140) (As := [_]) (a5 l G) (fcJ2).1 (ld4 O2).2.1 (lw_F q870 q873 q875 q55 q877) fw_addAll naI_J2_addAll dX1_takeFrom_135 rfl (Nat.le_of_ble_eq_true rfl) (Nat.le_of_ble_eq_true rfl) (by omega) (by omega) (Nat.le_of_ble_eq_true rfl) rfl (qi ?_)
  refine ew_pop (t := 141) dX1_takeFrom_140 rfl rfl ?_
  exact ew_vret rfl dX1_takeFrom_141 (by decide) (by decide) ⟨rfl, Nat.le_trans n23 n35, ⟨(k5 2 (by omega) (by omega) (by omega)).trans ((k4 2 (by omega) (by omega)).trans ((k3 2 (by omega) (by omega) (by omega)).trans ((k2 2 (by omega) (by omega)).trans x1.1))), (k5 3 (by omega) (by omega) (by omega)).trans ((k4 3 (by omega) (by omega)).trans ((k3 3 (by omega) (by omega) (by omega)).trans ((k2 3 (by omega) (by omega)).trans x1.2.1))), (k5 4 (by omega) (by omega) (by omega)).trans ((k4 4 (by omega) (by omega)).trans ((k3 4 (by omega) (by omega) (by omega)).trans ((k2 4 (by omega) (by omega)).trans x1.2.2.1))), (k5 5 (by omega) (by omega) (by omega)).trans ((k4 5 (by omega) (by omega)).trans ((k3 5 (by omega) (by omega) (by omega)).trans ((k2 5 (by omega) (by omega)).trans x1.2.2.2.1))), (k5 6 (by omega) (by omega) (by omega)).trans ((k4 6 (by omega) (by omega)).trans ((k3 6 (by omega) (by omega) (by omega)).trans ((k2 6 (by omega) (by omega)).trans x1.2.2.2.2.1))), (k5 7 (by omega) (by omega) (by omega)).trans ((k4 7 (by omega) (by omega)).trans ((k3 7 (by omega) (by omega) (by omega)).trans ((k2 7 (by omega) (by omega)).trans x1.2.2.2.2.2.1))), (k5 8 (by omega) (by omega) (by omega)).trans ((k4 8 (by omega) (by omega)).trans ((k3 8 (by omega) (by omega) (by omega)).trans ((k2 8 (by omega) (by omega)).trans x1.2.2.2.2.2.2)))⟩, ⟨mo3, md5, e5, e6, lp5, ld5, o5, o6.imp id (fun q => Nat.le_trans n23 q), fun q1 q2 => o6.elim (fun o => ne52 (by omega) (by omega)) (fun o => by have := lo5 (by omega); omega)⟩, fun k q1 q2 q3 q4 => (k5 k (by omega) (by omega) q4).trans ((k4 k (by omega) q4).trans ((k3 k q1 (by omega) q3).trans ((k2 k (by omega) q3).trans (lo k (by omega)))))⟩
/-- behind image, restore: the Told from D on holds F -/
def XIQ (s : Nat → Int32) (D : Nat) (F : Nat → Nat → Int32) (h : AH) (n np nd e e2 : Nat) (O1 O2 : Nat → List Value) (k18 : Int32) : Option Value → AH → Nat → Prop := fun r h' n' => r = some (.int 1) ∧ n ≤ n' ∧ (∃ s', h' 1 = some (XO s') ∧ s' 3 = s 3 ∧ s' 18 = k18) ∧ XTd D F h' ∧ (∃ mo' md' e' e2', LSe h' n' (D + 7) 8 np O1 mo' e' ∧ LSe h' n' (D + 8) 9 nd O2 md' e2' ∧ (e' = e ∨ n ≤ e') ∧ (e2' = e2 ∨ n ≤ e2') ∧ (63 ≤ e2' → ¬ e2' = e')) ∧ ∀ k, k < n → ¬ k = 1 → ¬ (D + 1 ≤ k ∧ k ≤ D + 8) → ¬ (k = e ∧ 63 ≤ e) → ¬ (k = e2 ∧ 63 ≤ e2) → h' k = h k
set_option maxHeartbeats 600000 in
theorem xc_image {l : Launch} {G : GW} {h : AH} {n : Nat} {s : Nat → Int32} (x1 : h 1 = some (XO s)) {F F0 : Nat → Nat → Int32} {np nd np0 nd0 e e2 e3 e4 : Nat} {mo md m3 m4 : Int32} {O1 O2 O3 O4 : Nat → List Value} (hn : 63 ≤ n) (xd : XTd 19 F0 h) (xs : XTd 2 F h) (fb : byF F) (lp : LSe h n 26 8 np0 O3 mo e) (ld : LSe h n 27 9 nd0 O4 md e2) (sp : LSe h n 9 8 np O1 m3 e3) (sd : LSe h n 10 9 nd O2 m4 e4) (ne12 : 63 ≤ e → ¬ e = e2) (ne13 : 63 ≤ e → ¬ e = e3) (ne14 : 63 ≤ e → ¬ e = e4) (ne23 : 63 ≤ e2 → ¬ e2 = e3) (ne24 : 63 ≤ e2 → ¬ e2 = e4) : AM l G yX0_image cX0_image 1 (some .int) 9 4 40 [.ref 1] h n (XIQ s 19 F h n np nd e e2 O1 O2 1) := by
  refine AM.of (L := [some (.ref 1)]) (by decide) (Nat.le_of_ble_eq_true rfl) rfl ?_
  refine ew_aload_n (t := 1) dX0_image_0 rfl rfl rfl ?_
  refine ew_get (t := 4) (j := 19) (v := .ref 19) fcX0 x1 (Nat.le_of_ble_eq_true rfl) q281 rfl dX0_image_1 rfl ?_
  refine ew_aload_n (t := 5) dX0_image_4 rfl rfl rfl ?_
  refine ew_get (t := 8) (j := 0) (v := .ref 2) fcX0 x1 (Nat.le_of_ble_eq_true rfl) q255 rfl dX0_image_5 rfl ?_
  refine ew_callV (t := 11) (As := [_]) (ax_take19 hn xd xs fb lp ld sp sd ne12 ne13 ne14 ne23 ne24) (fcX1).1 xd.1 (lw_V q862 q863 q864 q52 q865) rfl naX1_takeFrom dX0_image_8 rfl (Nat.le_of_ble_eq_true rfl) (Nat.le_of_ble_eq_true rfl) (by omega) (by omega) (Nat.le_of_ble_eq_true rfl) rfl (fun rr h1 n1 qq => ?_)
  obtain ⟨rfl, y1, y2, ⟨mo', md', e', e2', y31, y32, y33, y34, y35⟩, y4⟩ := qq
  refine ew_aload_n (t := 12) dX0_image_11 rfl rfl rfl ?_
  refine ew_ic1 (t := 13) dX0_image_12 rfl ?_
  refine ew_put (t := 16) (j := 18) (fs' := XOf (upd s 18 1)) (h' := (hov h1 [(1, OB 0 (XOf (upd s 18 1)))])) fcX0 ((y4 1 (by omega) (by omega) (by omega) (by omega)).trans x1) (Nat.le_of_ble_eq_true rfl) rfl q280 (by decide) (by decide) (Nat.le_of_ble_eq_true rfl) rfl dX0_image_13 hov_up0 rfl ?_
  refine ew_ic1 (t := 17) dX0_image_16 rfl ?_
  exact ew_iret rfl dX0_image_17 (by decide) (by decide) ⟨rfl, y1, ⟨_, rfl, rfl, rfl⟩, ⟨(hv_miss (by omega)).trans y2.1, (hv_miss (by omega)).trans y2.2.1, (hv_miss (by omega)).trans y2.2.2.1, (hv_miss (by omega)).trans y2.2.2.2.1, (hv_miss (by omega)).trans y2.2.2.2.2.1, (hv_miss (by omega)).trans y2.2.2.2.2.2.1, (hv_miss (by omega)).trans y2.2.2.2.2.2.2⟩, ⟨mo', md', e', e2', y31.keep (Nat.le_refl _) (hv_miss (by omega)) (fun _ _ => hv_miss (by omega)) (fun p vs p1 p2 p3 => hv_miss (by omega)), y32.keep (Nat.le_refl _) (hv_miss (by omega)) (fun _ _ => hv_miss (by omega)) (fun p vs p1 p2 p3 => hv_miss (by omega)), y33, y34, y35⟩, fun k q1 q2 q3 q4 q5 => (hv_miss q2).trans (y4 k q1 q3 q4 q5)⟩
set_option maxHeartbeats 600000 in
theorem xc_restore {l : Launch} {G : GW} {h : AH} {n : Nat} {s : Nat → Int32} (x1 : h 1 = some (XO s)) {F F0 : Nat → Nat → Int32} {np nd np0 nd0 e e2 e3 e4 : Nat} {mo md m3 m4 : Int32} {O1 O2 O3 O4 : Nat → List Value} (hn : 63 ≤ n) (xd : XTd 2 F0 h) (xs : XTd 19 F h) (fb : byF F) (lp : LSe h n 9 8 np0 O3 mo e) (ld : LSe h n 10 9 nd0 O4 md e2) (sp : LSe h n 26 8 np O1 m3 e3) (sd : LSe h n 27 9 nd O2 m4 e4) (ne12 : 63 ≤ e → ¬ e = e2) (ne13 : 63 ≤ e → ¬ e = e3) (ne14 : 63 ≤ e → ¬ e = e4) (ne23 : 63 ≤ e2 → ¬ e2 = e3) (ne24 : 63 ≤ e2 → ¬ e2 = e4) : AM l G yX0_restore cX0_restore 1 (some .int) 9 4 40 [.ref 1] h n (fun r h' n' => (s 18 = 0 ∧ r = some (.int (-4)) ∧ h' = h ∧ n' = n) ∨ (¬ s 18 = 0 ∧ XIQ s 2 F h n np nd e e2 O1 O2 (s 18) r h' n')) := by
  refine AM.of (L := [some (.ref 1)]) (by decide) (Nat.le_of_ble_eq_true rfl) rfl ?_
  refine ew_aload_n (t := 1) dX0_restore_0 rfl rfl rfl ?_
  refine ew_get (t := 4) (j := 18) (v := .int (s 18)) fcX0 x1 (Nat.le_of_ble_eq_true rfl) q280 rfl dX0_restore_1 rfl ?_
  refine ew_if_ne (t := 10) (t2 := 7) dX0_restore_4 rfl rfl (fun c_4 => ?_) (fun c_4 => ?_)
  · refine ew_aload_n (t := 11) dX0_restore_10 rfl rfl rfl ?_
    refine ew_get (t := 14) (j := 0) (v := .ref 2) fcX0 x1 (Nat.le_of_ble_eq_true rfl) q255 rfl dX0_restore_11 rfl ?_
    refine ew_aload_n (t := 15) dX0_restore_14 rfl rfl rfl ?_
    refine ew_get (t := 18) (j := 19) (v := .ref 19) fcX0 x1 (Nat.le_of_ble_eq_true rfl) q281 rfl dX0_restore_15 rfl ?_
    refine ew_callV (t := 21) (As := [_]) (ax_take2 hn xd xs fb lp ld sp sd ne12 ne13 ne14 ne23 ne24) (fcX1).1 xd.1 (lw_V q862 q863 q864 q52 q865) rfl naX1_takeFrom dX0_restore_18 rfl (Nat.le_of_ble_eq_true rfl) (Nat.le_of_ble_eq_true rfl) (by omega) (by omega) (Nat.le_of_ble_eq_true rfl) rfl (fun rr h1 n1 qq => ?_)
    obtain ⟨rfl, y1, y2, ⟨mo', md', e', e2', y31, y32, y33, y34, y35⟩, y4⟩ := qq
    refine ew_ic1 (t := 22) dX0_restore_21 rfl ?_
    exact ew_iret rfl dX0_restore_22 (by decide) (by decide) (Or.inr ⟨c_4, rfl, y1, ⟨s, (y4 1 (by omega) (by omega) (by omega) (by omega)).trans x1, rfl, rfl⟩, y2, ⟨mo', md', e', e2', y31, y32, y33, y34, y35⟩, fun k q1 q2 q3 q4 q5 => y4 k q1 q3 q4 q5⟩)
  · refine ew_bipush (t := 9) (v := (-4)) dX0_restore_7 (by decide) rfl ?_
    exact ew_iret rfl dX0_restore_9 (by decide) (by decide) (Or.inl ⟨c_4, rfl, rfl, rfl⟩)
