-- Obj fields dict_keys(['cls', 'fun', 'sname', 'refs', 'extra', 'ups'])
/-! the component: film -/
set_option maxRecDepth 100000
def FMQ (s : Nat → Int32) (h : AH) (n : Nat) (rr : Nat → Nat) (p : OR) : Option Value → AH → Nat → Prop := fun r h' n' => r = some (.int p.1) ∧ n ≤ n' ∧ SHx p.2.2 h' n' rr ∧ scX h' ∧ (∃ s', h' 1 = some (XO s') ∧ kpS s s') ∧ (∀ k, k < n → ¬ (k = 1 ∨ (13 ≤ k ∧ k ≤ 18)) → ¬ (63 ≤ k ∧ ∃ t, t < 4 ∧ k = rr t) → h' k = h k)
theorem SHx.mono {F : Nat → Nat → Int32} {h h' : AH} {n n' : Nat} {rr : Nat → Nat} (sh : SHx F h n rr) (h63 : 63 ≤ n) (hn : n ≤ n') (e : ∀ k, k < n → 28 ≤ k → h' k = h k) : SHx F h' n' rr := by
  refine ⟨(e 28 (by omega) (by omega)).trans sh.1, fun t ht => ?_⟩
  rcases sh.2 t ht with ⟨q1, q2⟩ | ⟨ln, z, f, q1, q2, q3, q4, q5, q6, q7, q8, q9⟩
  · exact Or.inl ⟨q1, (e _ (by omega) (by omega)).trans q2⟩
  · exact Or.inr ⟨ln, z, f, q1, q2, q3, q4, q5, by omega, (e _ (by omega) (by omega)).trans q7, (e _ q6 (by omega)).trans q8, q9⟩
theorem FMQ.of {s : Nat → Int32} {h h' : AH} {n n' : Nat} {rr : Nat → Nat} {v : Int32} {sm : Nat → Int32} {F : Nat → Nat → Int32} (h63 : 63 ≤ n) (sh : SHx F h n rr) (q : XQ s h n (.int v) (some (.int v)) h' n') : FMQ s h n rr (v, sm, F) (some (.int v)) h' n' :=
  ⟨rfl, q.2.1, sh.mono h63 q.2.1 (fun k h1 h2 => q.2.2.1 k h1 (by omega)), q.2.2.2.1, q.2.2.2.2, fun k h1 h2 _ => q.2.2.1 k h1 h2⟩
theorem FMQ.fin {s : Nat → Int32} {h h1 : AH} {n n' : Nat} {rr : Nat → Nat} {v : Int32} {sm : Nat → Int32} {F : Nat → Nat → Int32} {t H bb ln z : Nat} {w : WY} {f : Nat → Int32} (h63 : 63 ≤ n) (sh : SHx F h n rr) (d : rrD F rr) (q : XQ s h n (.int v) (some (.int v)) h1 n') (ht : t < 4) (hl : ln < 3) (hz : z ≤ 16) (e59 : F 59 t = nI ln) (e60 : F 60 t = nI z) (hr : 63 ≤ rr t) (hrn : rr t < n) (hbz : bb + (H + 1) ≤ z) (hf : ∀ j, j < z → f j = F 61 (16 * t + j)) (s0 : h (29 + t) = some (OB 3 [.ref (rr t)])) : FMQ s h n rr (v, sm, va_up F 61 (flI (F 61) w (16 * t + bb) (H + 1))) (some (.int v)) (hov h1 [(rr t, rwA ln z (flI f w bb (H + 1)))]) n' := by
  obtain ⟨-, q2, q3, ⟨⟨f1, s1⟩, ⟨f2, s2⟩, ⟨f3, s3⟩, ⟨f4, s4⟩, ⟨f5, s5⟩, f6, s6⟩, s', q5, q6⟩ := q
  refine ⟨rfl, q2, ⟨(hv_miss (by omega)).trans ((q3 28 (by omega) (by omega)).trans sh.1), fun t2 ht2 => (sh.2 t2 ht2).film d ht ht2 q2 hl hz e59 e60 hr hrn hbz hf hv_hit (fun k k1 k2 k3 => (hv_miss k3).trans (q3 k k1 (by omega))) h63 s0⟩, ⟨⟨f1, (hv_miss (by omega)).trans s1⟩, ⟨f2, (hv_miss (by omega)).trans s2⟩, ⟨f3, (hv_miss (by omega)).trans s3⟩, ⟨f4, (hv_miss (by omega)).trans s4⟩, ⟨f5, (hv_miss (by omega)).trans s5⟩, f6, (hv_miss (by omega)).trans s6⟩, ⟨s', (hv_miss (by omega)).trans q5, q6⟩, fun k k1 k2 k3 => ?_⟩
  exact (hv_miss (fun z => k3 ⟨by omega, t, ht, z⟩)).trans (q3 k k1 k2)
