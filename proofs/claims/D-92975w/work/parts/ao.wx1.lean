/-! THE WORLD: what the component's cells are, beside what is told (F); kept: Fk -/
set_option maxRecDepth 100000
def DJ (e1 e2 e3 e4 : Nat) : Prop := (63 ≤ e1 → ¬ e1 = e2 ∧ ¬ e1 = e3 ∧ ¬ e1 = e4) ∧ (63 ≤ e2 → ¬ e2 = e1 ∧ ¬ e2 = e3 ∧ ¬ e2 = e4) ∧ (63 ≤ e3 → ¬ e3 = e1 ∧ ¬ e3 = e2 ∧ ¬ e3 = e4) ∧ (63 ≤ e4 → ¬ e4 = e1 ∧ ¬ e4 = e2 ∧ ¬ e4 = e3)
def WX (sx : Nat → Int32) (F Fk : Nat → Nat → Int32) (np nd npk ndk e1 e2 e3 e4 : Nat) (rr : Nat → Nat) (h : AH) (n : Nat) : Prop :=
  63 ≤ n ∧ h 1 = some (XO sx) ∧ XT F h ∧ (∃ mo, LSe h n 9 8 np (pcO F) mo e1) ∧ (∃ md, LSe h n 10 9 nd (drO F) md e2) ∧ (∃ p0, h 11 = some (FO p0)) ∧ h 12 = some (BA 60 (F 40)) ∧ scX h ∧ XTd 19 Fk h ∧ (∃ mo, LSe h n 26 8 npk (pcO Fk) mo e3) ∧ (∃ md, LSe h n 27 9 ndk (drO Fk) md e4) ∧ DJ e1 e2 e3 e4 ∧ SHx F h n rr ∧ rrD F rr ∧ ∀ t, t < 4 → F 59 t < 0 → rr t = 0
theorem SHx.kp {F : Nat → Nat → Int32} {h h' : AH} {n n' : Nat} {rr : Nat → Nat} (sh : SHx F h n rr) (h63 : 63 ≤ n) (hn : n ≤ n') (e : ∀ k, k < n → (28 ≤ k ∧ k ≤ 32) ∨ 63 ≤ k → h' k = h k) : SHx F h' n' rr := by
  refine ⟨(e 28 (by omega) (by omega)).trans sh.1, fun t ht => ?_⟩
  rcases sh.2 t ht with ⟨q1, q2⟩ | ⟨ln, z, f, q1, q2, q3, q4, q5, q6, q7, q8, q9⟩
  · exact Or.inl ⟨q1, (e _ (by omega) (by omega)).trans q2⟩
  · exact Or.inr ⟨ln, z, f, q1, q2, q3, q4, q5, by omega, (e _ (by omega) (by omega)).trans q7, (e _ q6 (by omega)).trans q8, q9⟩
theorem SHx.cg {F F' : Nat → Nat → Int32} {h : AH} {n : Nat} {rr : Nat → Nat} (sh : SHx F h n rr) (e59 : F' 59 = F 59) (e60 : F' 60 = F 60) (e61 : F' 61 = F 61) : SHx F' h n rr := by
  refine ⟨sh.1, fun t ht => ?_⟩
  have := sh.2 t ht
  unfold SHt at this ⊢
  rw [e59, e60, e61]
  exact this
theorem XTd.kp {D : Nat} {F : Nat → Nat → Int32} {h h' : AH} (xt : XTd D F h) (e : ∀ k, D ≤ k → k ≤ D + 6 → h' k = h k) : XTd D F h' :=
  ⟨(e D (by omega) (by omega)).trans xt.1, (e _ (by omega) (by omega)).trans xt.2.1, (e _ (by omega) (by omega)).trans xt.2.2.1, (e _ (by omega) (by omega)).trans xt.2.2.2.1, (e _ (by omega) (by omega)).trans xt.2.2.2.2.1, (e _ (by omega) (by omega)).trans xt.2.2.2.2.2.1, (e _ (by omega) (by omega)).trans xt.2.2.2.2.2.2⟩
theorem LSe.kp {h h' : AH} {n n' c ci np : Nat} {O : Nat → List Value} {mo : Int32} {e : Nat} (ls : LSe h n c ci np O mo e) (hn : n ≤ n') (ec : h' c = h c) (eh : ∀ k, k < n → 63 ≤ k → h' k = h k) : LSe h' n' c ci np O mo e :=
  ls.keep hn ec (fun h1 h2 => eh e h2 h1) (fun p vs p1 p2 p3 => eh p p2 p1)
section WXS
variable {sx : Nat → Int32} {F Fk : Nat → Nat → Int32} {np nd npk ndk e1 e2 e3 e4 : Nat} {rr : Nat → Nat} {h h' : AH} {n n' : Nat}
/-- the cells that matter stay -/
theorem WX.kp {sx' : Nat → Int32} (w : WX sx F Fk np nd npk ndk e1 e2 e3 e4 rr h n) (hn : n ≤ n') (x1 : h' 1 = some (XO sx')) (sc : scX h') (e : ∀ k, k < n → (2 ≤ k ∧ k ≤ 12) ∨ (19 ≤ k ∧ k ≤ 32) ∨ 63 ≤ k → h' k = h k) : WX sx' F Fk np nd npk ndk e1 e2 e3 e4 rr h' n' := by
  obtain ⟨w0, w1, w2, ⟨m3, w3⟩, ⟨m4, w4⟩, ⟨p5, w5⟩, w6, w7, w8, ⟨m9, w9⟩, ⟨m10, w10⟩, w11, w12, w13, w14⟩ := w
  have eh : ∀ k, k < n → 63 ≤ k → h' k = h k := fun k k1 k2 => e k k1 (by omega)
  exact ⟨by omega, x1, XTd.x.mp ((XTd.x.mpr w2).kp (fun k k1 k2 => e k (by omega) (by omega))), ⟨m3, w3.kp hn (e 9 (by omega) (by omega)) eh⟩, ⟨m4, w4.kp hn (e 10 (by omega) (by omega)) eh⟩, ⟨p5, (e 11 (by omega) (by omega)).trans w5⟩, (e 12 (by omega) (by omega)).trans w6, sc, w8.kp (fun k k1 k2 => e k (by omega) (by omega)), ⟨m9, w9.kp hn (e 26 (by omega) (by omega)) eh⟩, ⟨m10, w10.kp hn (e 27 (by omega) (by omega)) eh⟩, w11, w12.kp w0 hn (fun k k1 k2 => e k k1 (by omega)), w13, w14⟩
/-- behind a query of the component -/
theorem WX.q {ans : Value} {r : Option Value} (w : WX sx F Fk np nd npk ndk e1 e2 e3 e4 rr h n) (q : XQ sx h n ans r h' n') : r = some ans ∧ n ≤ n' ∧ (∀ k, k < n → 19 ≤ k → h' k = h k) ∧ ∃ sx', kpS sx sx' ∧ WX sx' F Fk np nd npk ndk e1 e2 e3 e4 rr h' n' := by
  obtain ⟨q1, q2, q3, q4, sx', q5, q6⟩ := q
  exact ⟨q1, q2, fun k k1 k2 => q3 k k1 (by omega), sx', q6, w.kp q2 q5 q4 (fun k k1 k2 => q3 k k1 (by omega))⟩
/-- behind the reference -/
theorem WX.m (w : WX sx F Fk np nd npk ndk e1 e2 e3 e4 rr h n) (q : frM h h') : WX sx F Fk np nd npk ndk e1 e2 e3 e4 rr h' n := by
  obtain ⟨⟨f1, s1⟩, ⟨f2, s2⟩, ⟨f3, s3⟩, ⟨f4, s4⟩, ⟨f5, s5⟩, f6, s6⟩ := w.2.2.2.2.2.2.2.1
  exact w.kp (Nat.le_refl _) ((q 1 (by omega)).trans w.2.1) ⟨⟨f1, (q 13 (by omega)).trans s1⟩, ⟨f2, (q 14 (by omega)).trans s2⟩, ⟨f3, (q 15 (by omega)).trans s3⟩, ⟨f4, (q 16 (by omega)).trans s4⟩, ⟨f5, (q 17 (by omega)).trans s5⟩, f6, (q 18 (by omega)).trans s6⟩ (fun k k1 k2 => q k (by omega))
theorem WX.cg {F' : Nat → Nat → Int32} (w : WX sx F Fk np nd npk ndk e1 e2 e3 e4 rr h n) (e : ∀ k, perM k = true → F' k = F k) : WX sx F' Fk np nd npk ndk e1 e2 e3 e4 rr h n := by
  obtain ⟨w0, w1, w2, w3, w4, w5, w6, w7, w8, w9, w10, w11, w12, w13, w14⟩ := w
  refine ⟨w0, w1, ?_, ?_, ?_, w5, ?_, w7, w8, w9, w10, w11, w12.cg (e 59 rfl) (e 60 rfl) (e 61 rfl), ?_, ?_⟩
  · unfold XT; rw [e 34 rfl, e 35 rfl, e 36 rfl, e 37 rfl, e 38 rfl, e 39 rfl]; exact w2
  · rw [show pcO F' = pcO F from by funext j; unfold pcO; rw [e 52 rfl]]; exact w3
  · rw [show drO F' = drO F from by funext j; unfold drO; rw [e 53 rfl, e 54 rfl]]; exact w4
  · rw [e 40 rfl]; exact w6
  · unfold rrD; rw [e 59 rfl]; exact w13
  · rw [e 59 rfl]; exact w14
/-- behind an op that tells (set, ring, cell, depth) -/
theorem WX.u {r : Option Value} {p : OR} (w : WX sx F Fk np nd npk ndk e1 e2 e3 e4 rr h n) (q : XU h n p r h' n') (e : ∀ k, ¬ (34 ≤ k ∧ k ≤ 39) → p.2.2 k = F k) : r = some (.int p.1) ∧ n' = n ∧ (∀ k, 33 ≤ k → h' k = h k) ∧ WX sx p.2.2 Fk np nd npk ndk e1 e2 e3 e4 rr h' n := by
  obtain ⟨q1, q2, q3, q4⟩ := q
  obtain ⟨w0, w1, w2, ⟨m3, w3⟩, ⟨m4, w4⟩, ⟨p5, w5⟩, w6, w7, w8, ⟨m9, w9⟩, ⟨m10, w10⟩, w11, w12, w13, w14⟩ := w
  have eh : ∀ k, k < n → 63 ≤ k → h' k = h k := fun k k1 k2 => q3 k (by omega)
  obtain ⟨⟨f1, s1⟩, ⟨f2, s2⟩, ⟨f3, s3⟩, ⟨f4, s4⟩, ⟨f5, s5⟩, f6, s6⟩ := w7
  refine ⟨q1, q2, fun k hk => q3 k (by omega), w0, (q3 1 (by omega)).trans w1, q4, ⟨m3, ?_⟩, ⟨m4, ?_⟩, ⟨p5, (q3 11 (by omega)).trans w5⟩, ?_, ⟨⟨f1, (q3 13 (by omega)).trans s1⟩, ⟨f2, (q3 14 (by omega)).trans s2⟩, ⟨f3, (q3 15 (by omega)).trans s3⟩, ⟨f4, (q3 16 (by omega)).trans s4⟩, ⟨f5, (q3 17 (by omega)).trans s5⟩, f6, (q3 18 (by omega)).trans s6⟩, w8.kp (fun k k1 k2 => q3 k (by omega)), ⟨m9, w9.kp (Nat.le_refl _) (q3 26 (by omega)) eh⟩, ⟨m10, w10.kp (Nat.le_refl _) (q3 27 (by omega)) eh⟩, w11, (w12.kp w0 (Nat.le_refl _) (fun k k1 k2 => q3 k (by omega))).cg (e 59 (by omega)) (e 60 (by omega)) (e 61 (by omega)), ?_, ?_⟩
  · rw [show pcO p.2.2 = pcO F from by funext j; unfold pcO; rw [e 52 (by omega)]]; exact w3.kp (Nat.le_refl _) (q3 9 (by omega)) eh
  · rw [show drO p.2.2 = drO F from by funext j; unfold drO; rw [e 53 (by omega), e 54 (by omega)]]; exact w4.kp (Nat.le_refl _) (q3 10 (by omega)) eh
  · rw [e 40 (by omega)]; exact (q3 12 (by omega)).trans w6
  · unfold rrD; rw [e 59 (by omega)]; exact w13
  · rw [e 59 (by omega)]; exact w14
/-- behind type, sea, rings -/
theorem WX.y {r : Option Value} {p : OR} (w : WX sx F Fk np nd npk ndk e1 e2 e3 e4 rr h n) (q : XYQ sx h n p r h' n') (e : ∀ k, ¬ (34 ≤ k ∧ k ≤ 40) → p.2.2 k = F k) : r = some (.int p.1) ∧ n' = n ∧ (∀ k, 33 ≤ k → h' k = h k) ∧ ∃ sx', sx' 3 = p.2.1 7 ∧ sx' 18 = sx 18 ∧ WX sx' p.2.2 Fk np nd npk ndk e1 e2 e3 e4 rr h' n := by
  obtain ⟨q1, q2, ⟨sx', q4, q5, q6⟩, q7, q8, q9, q10, q3⟩ := q
  obtain ⟨w0, w1, w2, ⟨m3, w3⟩, ⟨m4, w4⟩, ⟨p5, w5⟩, w6, w7, w8, ⟨m9, w9⟩, ⟨m10, w10⟩, w11, w12, w13, w14⟩ := w
  have eh : ∀ k, k < n → 63 ≤ k → h' k = h k := fun k k1 k2 => q3 k (by omega)
  refine ⟨q1, q2, fun k hk => q3 k (by omega), sx', q5, q6, w0, q4, q8, ⟨m3, ?_⟩, ⟨m4, ?_⟩, q9, q7, q10, w8.kp (fun k k1 k2 => q3 k (by omega)), ⟨m9, w9.kp (Nat.le_refl _) (q3 26 (by omega)) eh⟩, ⟨m10, w10.kp (Nat.le_refl _) (q3 27 (by omega)) eh⟩, w11, (w12.kp w0 (Nat.le_refl _) (fun k k1 k2 => q3 k (by omega))).cg (e 59 (by omega)) (e 60 (by omega)) (e 61 (by omega)), ?_, ?_⟩
  · rw [show pcO p.2.2 = pcO F from by funext j; unfold pcO; rw [e 52 (by omega)]]; exact w3.kp (Nat.le_refl _) (q3 9 (by omega)) eh
  · rw [show drO p.2.2 = drO F from by funext j; unfold drO; rw [e 53 (by omega), e 54 (by omega)]]; exact w4.kp (Nat.le_refl _) (q3 10 (by omega)) eh
  · unfold rrD; rw [e 59 (by omega)]; exact w13
  · rw [e 59 (by omega)]; exact w14
end WXS
