/-! the world at the start -/
set_option maxRecDepth 100000
theorem iF_0 {k j : Nat} (h : ¬ k = 34) (h1 : ¬ k = 35) (h2 : ¬ k = 37) (h3 : ¬ k = 39) (h4 : ¬ k = 59) : iF k j = 0 := by
  unfold iF
  split <;> first | rfl | (exfalso; omega)
theorem vd_0 : VD iF 0 0 := by
  refine ⟨⟨0, 0, 6, 1, 0, 60, 1, 8, rfl, by omega, rfl, by omega, rfl, by omega, by omega, rfl, by omega, rfl, by omega, rfl, by omega, rfl, by omega, rfl, by omega, fun j hj => Or.inl ?_⟩, ⟨fun j hj => by omega, fun j hj => by omega, fun j hj => ⟨8, by omega, ?_⟩, ⟨8, by omega, rfl⟩⟩, ⟨fun j hj => ?_, fun j hj => ?_, fun j hj => ?_⟩, fun j hj _ => ?_, by omega, by omega⟩
  · show (if j < 7 then (-1 : Int32) else 0) < 0
    rw [if_pos hj]; decide
  · show (if j < 200 then (8 : Int32) else 0) = nI 8
    rw [if_pos hj]; rfl
  · show fits .byte (.int (if j < 200 then (8 : Int32) else 0)) = true
    rw [if_pos hj]; decide
  · rfl
  · show fits .byte (.int (if j < 100 then (1 : Int32) else 0)) = true
    rw [if_pos hj]; decide
  · show (if j < 7 then (-1 : Int32) else 0) = -1
    rw [if_pos hj]
theorem vs_0 : VS iF := by
  refine ⟨fun t ht => ⟨0, by omega, rfl⟩, fun t ht ln hl e => ?_⟩
  replace e : (if t < 4 then (-1 : Int32) else 0) = nI ln := e
  rw [if_pos ht] at e
  have : ∀ l, l < 3 → ¬ (-1 : Int32) = nI l := by decide
  exact absurd e (this ln hl)
theorem LSe.zero {h : AH} {n c ci : Nat} {O : Nat → List Value} (hc : h c = some (OB 12 [.int 0, .ref 0, .int 0])) : LSe h n c ci 0 O 0 0 := ⟨by omega, hc, Or.inl ⟨rfl, rfl⟩⟩
theorem wo_start {h0 h : AH} (x : XI0 h0) (mc : MC (fun _ => 0) 0 iF (fun _ => 0) h) (e : ∀ k, k < 33 → h k = h0 k) : WO h 63 := by
  obtain ⟨x1, x2, x3, x4, x5, x6, ⟨⟨f1, s1⟩, ⟨f2, s2⟩, ⟨f3, s3⟩, ⟨f4, s4⟩, ⟨f5, s5⟩, f6, s6⟩, x8, x9, x10, x11, x12⟩ := x
  refine ⟨fun _ => 0, fun _ => 0, 0, iF, fun _ => 0, iF, 0, 0, 0, 0, 0, 0, 0, 0, 0, fun _ => 0, ⟨by omega, (e 1 (by omega)).trans x1, XTd.x.mp (x2.kp (fun k k1 k2 => e k (by omega))), ⟨0, LSe.zero ((e 9 (by omega)).trans x3)⟩, ⟨0, LSe.zero ((e 10 (by omega)).trans x4)⟩, ⟨0, (e 11 (by omega)).trans x5⟩, (e 12 (by omega)).trans x6, ⟨⟨f1, (e 13 (by omega)).trans s1⟩, ⟨f2, (e 14 (by omega)).trans s2⟩, ⟨f3, (e 15 (by omega)).trans s3⟩, ⟨f4, (e 16 (by omega)).trans s4⟩, ⟨f5, (e 17 (by omega)).trans s5⟩, f6, (e 18 (by omega)).trans s6⟩, x8.kp (fun k k1 k2 => e k (by omega)), ⟨0, LSe.zero ((e 26 (by omega)).trans x9)⟩, ⟨0, LSe.zero ((e 27 (by omega)).trans x10)⟩, ⟨fun z => by omega, fun z => by omega, fun z => by omega, fun z => by omega⟩, ⟨(e 28 (by omega)).trans x11, fun t ht => Or.inl ⟨?_, (e _ (by omega)).trans (x12 t ht)⟩⟩, fun a b ha hb h1 h2 _ => ?_, fun _ _ _ => rfl⟩, mc, vd_0, vd_0, vs_0, fun j hj => by omega, by omega, rfl, rfl, rfl, rfl, rfl, fun q => absurd rfl q⟩
  · show (if t < 4 then (-1 : Int32) else 0) < 0
    rw [if_pos ht]; decide
  · replace h1 : 0 ≤ (if a < 4 then (-1 : Int32) else 0) := h1
    rw [if_pos ha] at h1
    exact absurd h1 (by decide)
