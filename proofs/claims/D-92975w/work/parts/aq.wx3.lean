/-! THE WORLD behind image and restore -/
set_option maxRecDepth 100000
def mixF (F Fk : Nat → Nat → Int32) : Nat → Nat → Int32 := fun k => if (34 ≤ k ∧ k ≤ 39) ∨ (52 ≤ k ∧ k ≤ 54) then Fk k else F k
section WXI
variable {sx : Nat → Int32} {F Fk : Nat → Nat → Int32} {np nd npk ndk e1 e2 e3 e4 : Nat} {rr : Nat → Nat} {h h' : AH} {n n' : Nat}
set_option maxHeartbeats 2000000 in
theorem WX.i {r : Option Value} {k18 : Int32} (w : WX sx F Fk np nd npk ndk e1 e2 e3 e4 rr h n) (q : XIQ sx 19 F h n np nd e3 e4 (pcO F) (drO F) k18 r h' n') : r = some (.int 1) ∧ n ≤ n' ∧ (∀ k, 33 ≤ k ∧ k < 63 → h' k = h k) ∧ ∃ sx' y3 y4, sx' 3 = sx 3 ∧ sx' 18 = k18 ∧ WX sx' F F np nd np nd e1 e2 y3 y4 rr h' n' := by
  obtain ⟨q1, q2, ⟨sx', q4, q5, q6⟩, q7, ⟨mo', md', y3, y4, q8, q9, q10, q11, q12⟩, q3⟩ := q
  obtain ⟨w0, w1, w2, ⟨m3, w3⟩, ⟨m4, w4⟩, ⟨p5, w5⟩, w6, w7, w8, ⟨m9, w9⟩, ⟨m10, w10⟩, w11, w12, w13, w14⟩ := w
  have lo1 := w3.lo
  have lo2 := w4.lo
  have lo3 := w9.lo
  have lo4 := w10.lo
  obtain ⟨d1, d2, d3, d4⟩ := w11
  have el : ∀ k, k < 63 → ¬ k = 1 → ¬ (20 ≤ k ∧ k ≤ 27) → h' k = h k := fun k k1 k2 k3 => q3 k (by omega) k2 (by omega) (by omega) (by omega)
  have eo : ∀ (p ci' : Nat) (vs : List Value), p < n → 63 ≤ p → h p = some (OB ci' vs) → h' p = h p := fun p ci' vs p1 p2 p3 => q3 p p1 (by omega) (by omega) (w9.ne p3) (w10.ne p3)
  have er : ∀ r ln z f, 63 ≤ r → r < n → ln < 3 → h r = some (rwA ln z f) → h' r = h r := fun r ln z f r1 r2 r3 r4 => q3 r r2 (by omega) (by omega) (w9.nr r3 r4) (w10.nr r3 r4)
  obtain ⟨⟨f1, s1⟩, ⟨f2, s2⟩, ⟨f3, s3⟩, ⟨f4, s4⟩, ⟨f5, s5⟩, f6, s6⟩ := w7
  refine ⟨q1, q2, fun k hk => el k (by omega) (by omega) (by omega), sx', y3, y4, q5, q6, by omega, q4, XTd.x.mp ((XTd.x.mpr w2).kp (fun k k1 k2 => el k (by omega) (by omega) (by omega))), ⟨m3, ?_⟩, ⟨m4, ?_⟩, ⟨p5, (el 11 (by omega) (by omega) (by omega)).trans w5⟩, (el 12 (by omega) (by omega) (by omega)).trans w6, ⟨⟨f1, (el 13 (by omega) (by omega) (by omega)).trans s1⟩, ⟨f2, (el 14 (by omega) (by omega) (by omega)).trans s2⟩, ⟨f3, (el 15 (by omega) (by omega) (by omega)).trans s3⟩, ⟨f4, (el 16 (by omega) (by omega) (by omega)).trans s4⟩, ⟨f5, (el 17 (by omega) (by omega) (by omega)).trans s5⟩, f6, (el 18 (by omega) (by omega) (by omega)).trans s6⟩, q7, ⟨mo', q8⟩, ⟨md', q9⟩, ?_, w12.kp2 q2 (fun k hk => el k (by omega) (by omega) (by omega)) er, w13, w14⟩
  · exact w3.keep q2 (el 9 (by omega) (by omega) (by omega)) (fun h1 h2 => q3 e1 h2 (by omega) (by omega) (fun z => by omega) (fun z => by omega)) (fun p vs p1 p2 p3 => eo p _ vs p2 p1 p3)
  · exact w4.keep q2 (el 10 (by omega) (by omega) (by omega)) (fun h1 h2 => q3 e2 h2 (by omega) (by omega) (fun z => by omega) (fun z => by omega)) (fun p vs p1 p2 p3 => eo p _ vs p2 p1 p3)
  · refine ⟨fun z => ⟨fun c => ?_, fun c => ?_, fun c => ?_⟩, fun z => ⟨fun c => ?_, fun c => ?_, fun c => ?_⟩, fun z => ⟨fun c => ?_, fun c => ?_, fun c => ?_⟩, fun z => ⟨fun c => ?_, fun c => ?_, fun c => ?_⟩⟩ <;> omega
set_option maxHeartbeats 2000000 in
theorem WX.r {r : Option Value} {k18 : Int32} (w : WX sx F Fk np nd npk ndk e1 e2 e3 e4 rr h n) (q : XIQ sx 2 Fk h n npk ndk e1 e2 (pcO Fk) (drO Fk) k18 r h' n') : r = some (.int 1) ∧ n ≤ n' ∧ (∀ k, 33 ≤ k ∧ k < 63 → h' k = h k) ∧ ∃ sx' y1 y2, sx' 3 = sx 3 ∧ sx' 18 = k18 ∧ WX sx' (mixF F Fk) Fk npk ndk npk ndk y1 y2 e3 e4 rr h' n' := by
  obtain ⟨q1, q2, ⟨sx', q4, q5, q6⟩, q7, ⟨mo', md', y1, y2, q8, q9, q10, q11, q12⟩, q3⟩ := q
  obtain ⟨w0, w1, w2, ⟨m3, w3⟩, ⟨m4, w4⟩, ⟨p5, w5⟩, w6, w7, w8, ⟨m9, w9⟩, ⟨m10, w10⟩, w11, w12, w13, w14⟩ := w
  have lo1 := w3.lo
  have lo2 := w4.lo
  have lo3 := w9.lo
  have lo4 := w10.lo
  obtain ⟨d1, d2, d3, d4⟩ := w11
  have el : ∀ k, k < 63 → ¬ k = 1 → ¬ (3 ≤ k ∧ k ≤ 10) → h' k = h k := fun k k1 k2 k3 => q3 k (by omega) k2 (by omega) (by omega) (by omega)
  have eo : ∀ (p ci' : Nat) (vs : List Value), p < n → 63 ≤ p → h p = some (OB ci' vs) → h' p = h p := fun p ci' vs p1 p2 p3 => q3 p p1 (by omega) (by omega) (w3.ne p3) (w4.ne p3)
  have er : ∀ r ln z f, 63 ≤ r → r < n → ln < 3 → h r = some (rwA ln z f) → h' r = h r := fun r ln z f r1 r2 r3 r4 => q3 r r2 (by omega) (by omega) (w3.nr r3 r4) (w4.nr r3 r4)
  obtain ⟨⟨f1, s1⟩, ⟨f2, s2⟩, ⟨f3, s3⟩, ⟨f4, s4⟩, ⟨f5, s5⟩, f6, s6⟩ := w7
  refine ⟨q1, q2, fun k hk => el k (by omega) (by omega) (by omega), sx', y1, y2, q5, q6, by omega, q4, ?_, ⟨mo', ?_⟩, ⟨md', ?_⟩, ⟨p5, (el 11 (by omega) (by omega) (by omega)).trans w5⟩, ?_, ⟨⟨f1, (el 13 (by omega) (by omega) (by omega)).trans s1⟩, ⟨f2, (el 14 (by omega) (by omega) (by omega)).trans s2⟩, ⟨f3, (el 15 (by omega) (by omega) (by omega)).trans s3⟩, ⟨f4, (el 16 (by omega) (by omega) (by omega)).trans s4⟩, ⟨f5, (el 17 (by omega) (by omega) (by omega)).trans s5⟩, f6, (el 18 (by omega) (by omega) (by omega)).trans s6⟩, w8.kp (fun k k1 k2 => el k (by omega) (by omega) (by omega)), ⟨m9, ?_⟩, ⟨m10, ?_⟩, ?_, (w12.kp2 q2 (fun k hk => el k (by omega) (by omega) (by omega)) er).cg rfl rfl rfl, w13, w14⟩
  · exact XTd.x.mp q7
  · exact q8
  · exact q9
  · exact (el 12 (by omega) (by omega) (by omega)).trans w6
  · exact w9.keep q2 (el 26 (by omega) (by omega) (by omega)) (fun h1 h2 => q3 e3 h2 (by omega) (by omega) (fun z => by omega) (fun z => by omega)) (fun p vs p1 p2 p3 => eo p _ vs p2 p1 p3)
  · exact w10.keep q2 (el 27 (by omega) (by omega) (by omega)) (fun h1 h2 => q3 e4 h2 (by omega) (by omega) (fun z => by omega) (fun z => by omega)) (fun p vs p1 p2 p3 => eo p _ vs p2 p1 p3)
  · refine ⟨fun z => ⟨fun c => ?_, fun c => ?_, fun c => ?_⟩, fun z => ⟨fun c => ?_, fun c => ?_, fun c => ?_⟩, fun z => ⟨fun c => ?_, fun c => ?_, fun c => ?_⟩, fun z => ⟨fun c => ?_, fun c => ?_, fun c => ?_⟩⟩ <;> omega
end WXI
