/-! THE WORLD behind the ops that change lists and sheets (printed by gen/wx2.py) -/
set_option maxRecDepth 100000
theorem rwA_ne {ln z : Nat} {f : Nat → Int32} {N : Nat} {g : Nat → Option Nat} (hl : ln < 3) : ¬ (rwA ln z f = RA N g) := by
  rw [rwA_in hl]
  intro e
  have e2 : lnK ln = 5 := congrArg Prod.fst (Sum.inl.inj e)
  have : ∀ ln, ln < 3 → ¬ lnK ln = 5 := by decide
  exact this ln hl e2
theorem rwA_no {ln z ci : Nat} {f : Nat → Int32} {vs : List Value} (hl : ln < 3) : ¬ (rwA ln z f = OB ci vs) := by
  rw [rwA_in hl]
  intro e
  cases e
theorem LSe.nr {h : AH} {n c ci np : Nat} {O : Nat → List Value} {mo : Int32} {e : Nat} (ls : LSe h n c ci np O mo e) {r ln z : Nat} {f : Nat → Int32} (hl : ln < 3) (hr : h r = some (rwA ln z f)) : ¬ (r = e ∧ 63 ≤ e) := by
  rintro ⟨z1, z2⟩
  rcases ls.2.2 with w1 | ⟨-, -, f1, xe1, -⟩
  · omega
  · rw [z1] at hr
    exact rwA_ne hl (Option.some.inj (hr.symm.trans xe1))
theorem SHx.kp2 {F : Nat → Nat → Int32} {h h' : AH} {n n' : Nat} {rr : Nat → Nat} (sh : SHx F h n rr) (hn : n ≤ n') (e : ∀ k, 28 ≤ k ∧ k ≤ 32 → h' k = h k) (er : ∀ r ln z f, 63 ≤ r → r < n → ln < 3 → h r = some (rwA ln z f) → h' r = h r) : SHx F h' n' rr := by
  refine ⟨(e 28 (by omega)).trans sh.1, fun t ht => ?_⟩
  rcases sh.2 t ht with ⟨q1, q2⟩ | ⟨ln, z, f, q1, q2, q3, q4, q5, q6, q7, q8, q9⟩
  · exact Or.inl ⟨q1, (e _ (by omega)).trans q2⟩
  · exact Or.inr ⟨ln, z, f, q1, q2, q3, q4, q5, by omega, (e _ (by omega)).trans q7, (er _ _ _ _ q5 q6 q1 q8).trans q8, q9⟩
section WXL
variable {sx : Nat → Int32} {F Fk : Nat → Nat → Int32} {np nd npk ndk e1 e2 e3 e4 : Nat} {rr : Nat → Nat} {h h' : AH} {n n' : Nat}
theorem WX.d {r : Option Value} {p : OR} (w : WX sx F Fk np nd npk ndk e1 e2 e3 e4 rr h n) (q : XLQ h n 10 9 e2 27 drO p r h' n') (e : ∀ k, ¬ k = 53 → ¬ k = 54 → p.2.2 k = F k) : r = some (.int p.1) ∧ n ≤ n' ∧ (∀ k, k < n → (33 ≤ k ∧ k < 63) → h' k = h k) ∧ ∃ x y, p.2.1 27 = nI x ∧ WX sx p.2.2 Fk np x npk ndk e1 y e3 e4 rr h' n' := by
  obtain ⟨q1, q2, ⟨x, mo', y, q4, q5, q6⟩, q3⟩ := q
  obtain ⟨w0, w1, w2, ⟨m3, w3⟩, ⟨m4, w4⟩, ⟨p5, w5⟩, w6, w7, w8, ⟨m9, w9⟩, ⟨m10, w10⟩, w11, w12, w13, w14⟩ := w
  have lo1 := w3.lo
  have lo2 := w4.lo
  have lo3 := w9.lo
  have lo4 := w10.lo
  have el : ∀ k, k < 63 → ¬ k = 10 → h' k = h k := fun k k1 k2 => q3 k (by omega) k2 (by omega)
  have eo : ∀ (p ci' : Nat) (vs : List Value), p < n → 63 ≤ p → h p = some (OB ci' vs) → h' p = h p := fun p ci' vs p1 p2 p3 => q3 p p1 (by omega) (w4.ne p3)
  have er : ∀ r ln z f, 63 ≤ r → r < n → ln < 3 → h r = some (rwA ln z f) → h' r = h r := fun r ln z f r1 r2 r3 r4 => q3 r r2 (by omega) (w4.nr r3 r4)
  obtain ⟨⟨f1, s1⟩, ⟨f2, s2⟩, ⟨f3, s3⟩, ⟨f4, s4⟩, ⟨f5, s5⟩, f6, s6⟩ := w7
  obtain ⟨d1, d2, d3, d4⟩ := w11
  refine ⟨q1, q2, fun k k1 k2 => q3 k k1 (by omega) (by omega), x, y, q4, by omega, (el 1 (by omega) (by omega)).trans w1, ?_, ⟨m3, by rw [show pcO p.2.2 = pcO F from by funext j; unfold pcO; rw [e 52 (by omega) (by omega)]]; exact w3.keep q2 (el 9 (by omega) (by omega)) (fun h1 h2 => q3 e1 h2 (by omega) (fun z => by have := d1; have := d2; have := d3; have := d4; omega)) (fun p vs p1 p2 p3 => eo p _ vs p2 p1 p3)⟩, ⟨mo', q5⟩, ⟨p5, (el 11 (by omega) (by omega)).trans w5⟩, ?_, ⟨⟨f1, (el 13 (by omega) (by omega)).trans s1⟩, ⟨f2, (el 14 (by omega) (by omega)).trans s2⟩, ⟨f3, (el 15 (by omega) (by omega)).trans s3⟩, ⟨f4, (el 16 (by omega) (by omega)).trans s4⟩, ⟨f5, (el 17 (by omega) (by omega)).trans s5⟩, f6, (el 18 (by omega) (by omega)).trans s6⟩, w8.kp (fun k k1 k2 => el k (by omega) (by omega)), ⟨m9, w9.keep q2 (el 26 (by omega) (by omega)) (fun h1 h2 => q3 e3 h2 (by omega) (fun z => by have := d1; have := d2; have := d3; have := d4; omega)) (fun p vs p1 p2 p3 => eo p _ vs p2 p1 p3)⟩, ⟨m10, w10.keep q2 (el 27 (by omega) (by omega)) (fun h1 h2 => q3 e4 h2 (by omega) (fun z => by have := d1; have := d2; have := d3; have := d4; omega)) (fun p vs p1 p2 p3 => eo p _ vs p2 p1 p3)⟩, ?_, (w12.kp2 q2 (fun k hk => el k (by omega) (by omega)) er).cg (e 59 (by omega) (by omega)) (e 60 (by omega) (by omega)) (e 61 (by omega) (by omega)), ?_, ?_⟩
  · unfold XT
    rw [e 34 (by omega) (by omega), e 35 (by omega) (by omega), e 36 (by omega) (by omega), e 37 (by omega) (by omega), e 38 (by omega) (by omega), e 39 (by omega) (by omega)]
    exact XTd.x.mp ((XTd.x.mpr w2).kp (fun k k1 k2 => el k (by omega) (by omega)))
  · rw [e 40 (by omega) (by omega)]; exact (el 12 (by omega) (by omega)).trans w6
  · refine ⟨fun z => ⟨fun c => ?_, fun c => ?_, fun c => ?_⟩, fun z => ⟨fun c => ?_, fun c => ?_, fun c => ?_⟩, fun z => ⟨fun c => ?_, fun c => ?_, fun c => ?_⟩, fun z => ⟨fun c => ?_, fun c => ?_, fun c => ?_⟩⟩ <;> omega
  · unfold rrD; rw [e 59 (by omega) (by omega)]; exact w13
  · rw [e 59 (by omega) (by omega)]; exact w14
theorem WX.p {r : Option Value} {p : OR} (w : WX sx F Fk np nd npk ndk e1 e2 e3 e4 rr h n) (q : XLQ h n 9 8 e1 25 pcO p r h' n') (e : ∀ k, ¬ k = 52 → p.2.2 k = F k) : r = some (.int p.1) ∧ n ≤ n' ∧ (∀ k, k < n → (33 ≤ k ∧ k < 63) → h' k = h k) ∧ ∃ x y, p.2.1 25 = nI x ∧ WX sx p.2.2 Fk x nd npk ndk y e2 e3 e4 rr h' n' := by
  obtain ⟨q1, q2, ⟨x, mo', y, q4, q5, q6⟩, q3⟩ := q
  obtain ⟨w0, w1, w2, ⟨m3, w3⟩, ⟨m4, w4⟩, ⟨p5, w5⟩, w6, w7, w8, ⟨m9, w9⟩, ⟨m10, w10⟩, w11, w12, w13, w14⟩ := w
  have lo1 := w3.lo
  have lo2 := w4.lo
  have lo3 := w9.lo
  have lo4 := w10.lo
  have el : ∀ k, k < 63 → ¬ k = 9 → h' k = h k := fun k k1 k2 => q3 k (by omega) k2 (by omega)
  have eo : ∀ (p ci' : Nat) (vs : List Value), p < n → 63 ≤ p → h p = some (OB ci' vs) → h' p = h p := fun p ci' vs p1 p2 p3 => q3 p p1 (by omega) (w3.ne p3)
  have er : ∀ r ln z f, 63 ≤ r → r < n → ln < 3 → h r = some (rwA ln z f) → h' r = h r := fun r ln z f r1 r2 r3 r4 => q3 r r2 (by omega) (w3.nr r3 r4)
  obtain ⟨⟨f1, s1⟩, ⟨f2, s2⟩, ⟨f3, s3⟩, ⟨f4, s4⟩, ⟨f5, s5⟩, f6, s6⟩ := w7
  obtain ⟨d1, d2, d3, d4⟩ := w11
  refine ⟨q1, q2, fun k k1 k2 => q3 k k1 (by omega) (by omega), x, y, q4, by omega, (el 1 (by omega) (by omega)).trans w1, ?_, ⟨mo', q5⟩, ⟨m4, by rw [show drO p.2.2 = drO F from by funext j; unfold drO; rw [e 53 (by omega), e 54 (by omega)]]; exact w4.keep q2 (el 10 (by omega) (by omega)) (fun h1 h2 => q3 e2 h2 (by omega) (fun z => by have := d1; have := d2; have := d3; have := d4; omega)) (fun p vs p1 p2 p3 => eo p _ vs p2 p1 p3)⟩, ⟨p5, (el 11 (by omega) (by omega)).trans w5⟩, ?_, ⟨⟨f1, (el 13 (by omega) (by omega)).trans s1⟩, ⟨f2, (el 14 (by omega) (by omega)).trans s2⟩, ⟨f3, (el 15 (by omega) (by omega)).trans s3⟩, ⟨f4, (el 16 (by omega) (by omega)).trans s4⟩, ⟨f5, (el 17 (by omega) (by omega)).trans s5⟩, f6, (el 18 (by omega) (by omega)).trans s6⟩, w8.kp (fun k k1 k2 => el k (by omega) (by omega)), ⟨m9, w9.keep q2 (el 26 (by omega) (by omega)) (fun h1 h2 => q3 e3 h2 (by omega) (fun z => by have := d1; have := d2; have := d3; have := d4; omega)) (fun p vs p1 p2 p3 => eo p _ vs p2 p1 p3)⟩, ⟨m10, w10.keep q2 (el 27 (by omega) (by omega)) (fun h1 h2 => q3 e4 h2 (by omega) (fun z => by have := d1; have := d2; have := d3; have := d4; omega)) (fun p vs p1 p2 p3 => eo p _ vs p2 p1 p3)⟩, ?_, (w12.kp2 q2 (fun k hk => el k (by omega) (by omega)) er).cg (e 59 (by omega)) (e 60 (by omega)) (e 61 (by omega)), ?_, ?_⟩
  · unfold XT
    rw [e 34 (by omega), e 35 (by omega), e 36 (by omega), e 37 (by omega), e 38 (by omega), e 39 (by omega)]
    exact XTd.x.mp ((XTd.x.mpr w2).kp (fun k k1 k2 => el k (by omega) (by omega)))
  · rw [e 40 (by omega)]; exact (el 12 (by omega) (by omega)).trans w6
  · refine ⟨fun z => ⟨fun c => ?_, fun c => ?_, fun c => ?_⟩, fun z => ⟨fun c => ?_, fun c => ?_, fun c => ?_⟩, fun z => ⟨fun c => ?_, fun c => ?_, fun c => ?_⟩, fun z => ⟨fun c => ?_, fun c => ?_, fun c => ?_⟩⟩ <;> omega
  · unfold rrD; rw [e 59 (by omega)]; exact w13
  · rw [e 59 (by omega)]; exact w14
theorem WX.c {r : Option Value} {ans : Int32} {F' : Nat → Nat → Int32} (w : WX sx F Fk np nd npk ndk e1 e2 e3 e4 rr h n) (q : XCQ h n e1 e2 ans r h' n') (eF : F' = F) : r = some (.int ans) ∧ n' = n ∧ (∀ k, 33 ≤ k ∧ k < 63 → h' k = h k) ∧ WX sx F' Fk 0 0 npk ndk e1 e2 e3 e4 rr h' n := by
  subst eF
  obtain ⟨q1, q2, ⟨mo5, q5⟩, ⟨mo6, q6⟩, q3⟩ := q
  obtain ⟨w0, w1, w2, ⟨m3, w3⟩, ⟨m4, w4⟩, ⟨p5, w5⟩, w6, w7, w8, ⟨m9, w9⟩, ⟨m10, w10⟩, w11, w12, w13, w14⟩ := w
  have el : ∀ k, k < 63 → ¬ k = 9 → ¬ k = 10 → h' k = h k := fun k k1 k2 k3 => q3 k k2 k3 (by omega) (by omega)
  have eo : ∀ (p ci' : Nat) (vs : List Value), 63 ≤ p → h p = some (OB ci' vs) → h' p = h p := fun p ci' vs p2 p3 => q3 p (by omega) (by omega) (w3.ne p3) (w4.ne p3)
  obtain ⟨⟨f1, s1⟩, ⟨f2, s2⟩, ⟨f3, s3⟩, ⟨f4, s4⟩, ⟨f5, s5⟩, f6, s6⟩ := w7
  obtain ⟨d1, d2, d3, d4⟩ := w11
  refine ⟨q1, q2, fun k hk => q3 k (by omega) (by omega) (by omega) (by omega), w0, (el 1 (by omega) (by omega) (by omega)).trans w1, XTd.x.mp ((XTd.x.mpr w2).kp (fun k k1 k2 => el k (by omega) (by omega) (by omega))), ⟨mo5, q5 _⟩, ⟨mo6, q6 _⟩, ⟨p5, (el 11 (by omega) (by omega) (by omega)).trans w5⟩, (el 12 (by omega) (by omega) (by omega)).trans w6, ⟨⟨f1, (el 13 (by omega) (by omega) (by omega)).trans s1⟩, ⟨f2, (el 14 (by omega) (by omega) (by omega)).trans s2⟩, ⟨f3, (el 15 (by omega) (by omega) (by omega)).trans s3⟩, ⟨f4, (el 16 (by omega) (by omega) (by omega)).trans s4⟩, ⟨f5, (el 17 (by omega) (by omega) (by omega)).trans s5⟩, f6, (el 18 (by omega) (by omega) (by omega)).trans s6⟩, w8.kp (fun k k1 k2 => el k (by omega) (by omega) (by omega)), ⟨m9, ?_⟩, ⟨m10, ?_⟩, ⟨d1, d2, d3, d4⟩, w12.kp2 (Nat.le_refl _) (fun k hk => el k (by omega) (by omega) (by omega)) (fun r ln z f r1 r2 r3 r4 => q3 r (by omega) (by omega) (w3.nr r3 r4) (w4.nr r3 r4)), w13, w14⟩
  · exact w9.keep (Nat.le_refl _) (el 26 (by omega) (by omega) (by omega)) (fun h1 h2 => q3 e3 (by omega) (by omega) (fun z => by omega) (fun z => by omega)) (fun p vs p1 p2 p3 => eo p _ vs p1 p3)
  · exact w10.keep (Nat.le_refl _) (el 27 (by omega) (by omega) (by omega)) (fun h1 h2 => q3 e4 (by omega) (by omega) (fun z => by omega) (fun z => by omega)) (fun p vs p1 p2 p3 => eo p _ vs p1 p3)
/-- rows of sheets that are none are 0 -/
theorem SHx.zr {G : Nat → Nat → Int32} {rr : Nat → Nat} (sh : SHx G h n rr) (dd : rrD G rr) : ∃ rr' : Nat → Nat, SHx G h n rr' ∧ rrD G rr' ∧ ∀ t, t < 4 → G 59 t < 0 → rr' t = 0 := by
  refine ⟨fun t => if G 59 t < 0 then 0 else rr t, ⟨sh.1, fun t ht => ?_⟩, fun a b ha hb h1 h2 he => ?_, fun t ht hn => if_pos hn⟩
  · rcases sh.2 t ht with q | q
    · exact Or.inl q
    · have : ¬ G 59 t < 0 := by
        obtain ⟨ln, z, f, q1, q2, q3, -⟩ := q
        rw [q3]
        exact Int32.not_lt.mpr (nI_nn (by omega))
      dsimp only
      rw [if_neg this]
      exact Or.inr q
  · dsimp only at he
    rw [if_neg (Int32.not_lt.mpr h1), if_neg (Int32.not_lt.mpr h2)] at he
    exact dd a b ha hb h1 h2 he
/-- a row that a sheet has is a row -/
theorem WX.row (w : WX sx F Fk np nd npk ndk e1 e2 e3 e4 rr h n) {k t : Nat} (ht : t < 4) (hk : k = rr t) (h63 : 63 ≤ k) : ∃ ln z f, ln < 3 ∧ h k = some (rwA ln z f) := by
  obtain ⟨w0, w1, w2, w3, w4, w5, w6, w7, w8, w9, w10, w11, w12, w13, w14⟩ := w
  rcases w12.2 t ht with ⟨q1, -⟩ | ⟨ln, z, f, q1, -, -, -, -, -, -, q8, -⟩
  · have := w14 t ht q1
    omega
  · exact ⟨ln, z, f, q1, by rw [hk]; exact q8⟩
theorem WX.sh {sx' : Nat → Int32} {F' : Nat → Nat → Int32} {rr' : Nat → Nat} (w : WX sx F Fk np nd npk ndk e1 e2 e3 e4 rr h n) (hn : n ≤ n') (x1 : h' 1 = some (XO sx')) (sc : scX h') (s' : SHx F' h' n' rr') (d' : rrD F' rr') (eF : ∀ k, ¬ (59 ≤ k ∧ k ≤ 61) → F' k = F k)
    (e : ∀ k, k < n → (2 ≤ k ∧ k ≤ 12) ∨ (19 ≤ k ∧ k ≤ 27) ∨ (63 ≤ k ∧ ¬ ∃ t, t < 4 ∧ k = rr t) → h' k = h k) : ∃ rr2, WX sx' F' Fk np nd npk ndk e1 e2 e3 e4 rr2 h' n' := by
  obtain ⟨rr2, r1, r2, r3⟩ := s'.zr d'
  have wr := fun k t (ht : t < 4) (hk : k = rr t) (h63 : 63 ≤ k) => w.row ht hk h63
  obtain ⟨w0, w1, w2, ⟨m3, w3⟩, ⟨m4, w4⟩, ⟨p5, w5⟩, w6, w7, w8, ⟨m9, w9⟩, ⟨m10, w10⟩, w11, w12, w13, w14⟩ := w
  have el : ∀ k, k < n → (2 ≤ k ∧ k ≤ 12) ∨ (19 ≤ k ∧ k ≤ 27) → h' k = h k := fun k k1 k2 => e k k1 (by omega)
  have eo : ∀ (p ci' : Nat) (vs : List Value), 63 ≤ p → p < n → h p = some (OB ci' vs) → h' p = h p := fun p ci' vs p1 p2 p3 => e p p2 (Or.inr (Or.inr ⟨p1, fun ⟨t, ht, hk⟩ => by
    obtain ⟨ln, z, f, z1, z2⟩ := wr p t ht hk p1
    exact rwA_no z1 (Option.some.inj (z2.symm.trans p3))⟩))
  have ea : ∀ {c ci np : Nat} {O : Nat → List Value} {mo : Int32} {ee : Nat}, LSe h n c ci np O mo ee → 63 ≤ ee → ee < n → h' ee = h ee := fun ls h1 h2 => e _ h2 (Or.inr (Or.inr ⟨h1, fun ⟨t, ht, hk⟩ => by
    obtain ⟨ln, z, f, z1, z2⟩ := wr _ t ht hk h1
    exact ls.nr z1 z2 ⟨rfl, h1⟩⟩))
  refine ⟨rr2, by omega, x1, ?_, ⟨m3, ?_⟩, ⟨m4, ?_⟩, ⟨p5, (el 11 (by omega) (by omega)).trans w5⟩, ?_, sc, w8.kp (fun k k1 k2 => el k (by omega) (by omega)), ⟨m9, ?_⟩, ⟨m10, ?_⟩, w11, r1, r2, r3⟩
  · unfold XT
    rw [eF 34 (by omega), eF 35 (by omega), eF 36 (by omega), eF 37 (by omega), eF 38 (by omega), eF 39 (by omega)]
    exact XTd.x.mp ((XTd.x.mpr w2).kp (fun k k1 k2 => el k (by omega) (by omega)))
  · rw [show pcO F' = pcO F from by funext j; unfold pcO; rw [eF 52 (by omega)]]
    exact w3.keep hn (el 9 (by omega) (by omega)) (ea w3) (fun p vs p1 p2 p3 => eo p _ vs p1 p2 p3)
  · rw [show drO F' = drO F from by funext j; unfold drO; rw [eF 53 (by omega), eF 54 (by omega)]]
    exact w4.keep hn (el 10 (by omega) (by omega)) (ea w4) (fun p vs p1 p2 p3 => eo p _ vs p1 p2 p3)
  · rw [eF 40 (by omega)]; exact (el 12 (by omega) (by omega)).trans w6
  · exact w9.keep hn (el 26 (by omega) (by omega)) (ea w9) (fun p vs p1 p2 p3 => eo p _ vs p1 p2 p3)
  · exact w10.keep hn (el 27 (by omega) (by omega)) (ea w10) (fun p vs p1 p2 p3 => eo p _ vs p1 p2 p3)
theorem WX.sc (w : WX sx F Fk np nd npk ndk e1 e2 e3 e4 rr h n) (e : ∀ k, 13 ≤ k → k ≤ 18 → h' k = h k) : scX h' := by
  obtain ⟨⟨f1, s1⟩, ⟨f2, s2⟩, ⟨f3, s3⟩, ⟨f4, s4⟩, ⟨f5, s5⟩, f6, s6⟩ := w.2.2.2.2.2.2.2.1
  exact ⟨⟨f1, (e 13 (by omega) (by omega)).trans s1⟩, ⟨f2, (e 14 (by omega) (by omega)).trans s2⟩, ⟨f3, (e 15 (by omega) (by omega)).trans s3⟩, ⟨f4, (e 16 (by omega) (by omega)).trans s4⟩, ⟨f5, (e 17 (by omega) (by omega)).trans s5⟩, f6, (e 18 (by omega) (by omega)).trans s6⟩
/-- behind sheet, item, copy -/
theorem WX.sp {r : Option Value} {p : OR} (w : WX sx F Fk np nd npk ndk e1 e2 e3 e4 rr h n) (q : SPQ h n rr p r h' n') (eF : ∀ k, ¬ (59 ≤ k ∧ k ≤ 61) → p.2.2 k = F k) : r = some (.int p.1) ∧ n ≤ n' ∧ (∀ k, 33 ≤ k ∧ k < 63 → h' k = h k) ∧ ∃ rr2, WX sx p.2.2 Fk np nd npk ndk e1 e2 e3 e4 rr2 h' n' := by
  obtain ⟨q1, q2, rr', q3, q4, q5, q6⟩ := q
  have w0 := w.1
  refine ⟨q1, q2, fun k hk => q6 k (by omega) (by omega) (fun z => by omega), w.sh q2 ((q6 1 (by omega) (by omega) (fun z => by omega)).trans w.2.1) (w.sc (fun k k1 k2 => q6 k (by omega) (by omega) (fun z => by omega))) q3 q4 eF (fun k k1 k2 => q6 k k1 (by omega) (fun ⟨z1, z2⟩ => ?_))⟩
  rcases k2 with k2 | k2 | ⟨-, k2⟩
  · omega
  · omega
  · exact k2 z2
/-- behind film -/
theorem WX.f {r : Option Value} {p : OR} (w : WX sx F Fk np nd npk ndk e1 e2 e3 e4 rr h n) (q : FMQ sx h n rr p r h' n') (eF : ∀ k, ¬ k = 61 → p.2.2 k = F k) : r = some (.int p.1) ∧ n ≤ n' ∧ (∀ k, 33 ≤ k ∧ k < 63 → h' k = h k) ∧ ∃ sx', kpS sx sx' ∧ ∃ rr2, WX sx' p.2.2 Fk np nd npk ndk e1 e2 e3 e4 rr2 h' n' := by
  obtain ⟨q1, q2, q3, q4, ⟨sx', q5, q7⟩, q6⟩ := q
  have w0 := w.1
  have dd : rrD p.2.2 rr := by
    have := w.2.2.2.2.2.2.2.2.2.2.2.2.2.1
    unfold rrD
    rw [eF 59 (by omega)]
    exact this
  refine ⟨q1, q2, fun k hk => q6 k (by omega) (by omega) (fun z => by omega), sx', q7, w.sh q2 q5 q4 q3 dd (fun k hk => eF k (by omega)) (fun k k1 k2 => q6 k k1 (by omega) (fun ⟨z1, z2⟩ => ?_))⟩
  rcases k2 with k2 | k2 | ⟨-, k2⟩
  · omega
  · omega
  · exact k2 z2
/-- behind drop -/
theorem WX.x {r : Option Value} {p : OR} (w : WX sx F Fk np nd npk ndk e1 e2 e3 e4 rr h n) (q : XSQ h n rr p r h' n') (eF : ∀ k, ¬ k = 59 → p.2.2 k = F k) (dd : rrD p.2.2 rr) : r = some (.int p.1) ∧ n' = n ∧ (∀ k, 33 ≤ k ∧ k < 63 → h' k = h k) ∧ ∃ rr2, WX sx p.2.2 Fk np nd npk ndk e1 e2 e3 e4 rr2 h' n := by
  obtain ⟨q1, q2, q3, q6⟩ := q
  have w0 := w.1
  exact ⟨q1, q2, fun k hk => q6 k (by omega), w.sh (Nat.le_refl _) ((q6 1 (by omega)).trans w.2.1) (w.sc (fun k k1 k2 => q6 k (by omega))) q3 dd (fun k hk => eF k (by omega)) (fun k k1 k2 => q6 k (by omega))⟩
end WXL
