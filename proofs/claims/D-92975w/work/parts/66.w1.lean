/-! THE WAYS as a list (plain law): a node is what a way is at an hour; codes are what may be done there; the list of all ways from a node. And: goesOn gives just this list. -/
set_option maxRecDepth 100000
/-- cells so far, course, pace, turns, slowed, fuel, what rings gave -/
abbrev ND : Type := (Nat → Nat) × Nat × Nat × Nat × Nat × Nat × Nat
abbrev QD : Type := Nat × Nat × Nat × Nat
def updN (f : Nat → Nat) (k x : Nat) : Nat → Nat := fun j => if j = k then x else f j
theorem updN_us {f : Nat → Nat} {k x : Nat} : updN f k x k = x := if_pos rfl
theorem updN_un {f : Nat → Nat} {k x j : Nat} (h : j ≠ k) : updN f k x j = f j := if_neg h
def ncN (v : Nat) : Nat := if v = 0 then 24 else 18
def slN (S : Nat) (q : QD) : Option QD := if q.2.2.2 < S ∧ 2 ≤ q.2.1 then some (q.1, q.2.1 - 1, q.2.2.1, q.2.2.2 + 1) else none
/-- what a code does: course, pace, turns, slowed -/
def cdN (T S v : Nat) (nd : ND) (c : Nat) : Option QD :=
  if v = 0 then some (c / 3, c % 3 + 1, nd.2.2.2.1, nd.2.2.2.2.1)
  else if c ≤ 1 then (if c = 1 then slN S (nd.2.1, nd.2.2.1, nd.2.2.2.1, nd.2.2.2.2.1) else some (nd.2.1, nd.2.2.1, nd.2.2.2.1, nd.2.2.2.2.1))
  else if c / 2 - 1 = nd.2.1 then none
  else if nd.2.2.2.1 < T then (if c % 2 = 1 then slN S (c / 2 - 1, nd.2.2.1, nd.2.2.2.1 + 1, nd.2.2.2.2.1) else some (c / 2 - 1, nd.2.2.1, nd.2.2.2.1 + 1, nd.2.2.2.2.1))
  else none
section WN
variable (F35 F36 : Nat → Int32) (nr nt nf : Int32) (a T S U : Nat)
/-- the cell that is reached, what its ring gives -/
def toN (v : Nat) (nd : ND) (q : QD) : Nat := (goneF (nI (nd.1 v)) (nI q.1) (nI q.2.1)).toNatClampNeg
def rnN (v : Nat) (nd : ND) (q : QD) : Int32 := ringI nr (nI (v + 1)) nt (nI (awayF a (toN v nd q))) (nI (awayF a (nd.1 v))) (F36 (v + 1)) (F35 (v + 1))
def nxN (v : Nat) (nd : ND) (q : QD) : ND := (updN nd.1 (v + 1) (toN v nd q), q.1, q.2.1, q.2.2.1, q.2.2.2, nd.2.2.2.2.2.1 + q.2.1 * q.2.1, nd.2.2.2.2.2.2 * (rnN F35 F36 nr nt a v nd q).toNatClampNeg)
def goN (v : Nat) (nd : ND) (q : QD) : Option ND :=
  if goneF (nI (nd.1 v)) (nI q.1) (nI q.2.1) < 0 then none
  else if nf = 0 ∧ U < nd.2.2.2.2.2.1 + q.2.1 * q.2.1 then none
  else if rnN F35 F36 nr nt a v nd q = 0 then none else some (nxN F35 F36 nr nt a v nd q)
/-- the ways from a node, so many hours ahead -/
def wyN : Nat → Nat → ND → List WY
  | 0, _, nd => [(nd.1, nd.2.1, nd.2.2.2.1, nd.2.2.2.2.1, nd.2.2.2.2.2.2)]
  | r + 1, v, nd => (List.range (ncN v)).flatMap (fun c => match (cdN T S v nd c).bind (goN F35 F36 nr nt nf a U v nd) with
    | none => []
    | some nd' => wyN r (v + 1) nd')
/-- the ways of a code -/
def wcN (r v : Nat) (nd : ND) (c : Nat) : List WY := match (cdN T S v nd c).bind (goN F35 F36 nr nt nf a U v nd) with
  | none => []
  | some nd' => wyN F35 F36 nr nt nf a T S U r (v + 1) nd'
theorem wyN_s (r v : Nat) (nd : ND) : wyN F35 F36 nr nt nf a T S U (r + 1) v nd = (List.range (ncN v)).flatMap (wcN F35 F36 nr nt nf a T S U r v nd) := rfl
end WN
def rtN (b : Nat) : ND := (fun _ => b, 0, 1, 0, 0, 0, 1)
/-- a node's numbers are right -/
def okN (T S v : Nat) (nd : ND) : Prop := (∀ j, j ≤ v → nd.1 j < 100) ∧ nd.2.1 < 8 ∧ 1 ≤ nd.2.2.1 ∧ nd.2.2.1 ≤ 3 ∧ nd.2.2.2.1 ≤ T ∧ nd.2.2.2.2.1 ≤ S ∧ nd.2.2.2.2.2.1 ≤ 9 * v ∧ 0 < nd.2.2.2.2.2.2 ∧ nd.2.2.2.2.2.2 ≤ 2 ^ v
def okQ (T S : Nat) (q : QD) : Prop := q.1 < 8 ∧ 1 ≤ q.2.1 ∧ q.2.1 ≤ 3 ∧ q.2.2.1 ≤ T ∧ q.2.2.2 ≤ S
theorem or3 {c : Prop} [Decidable c] {a b : Int32} (ha : a = 0 ∨ a = 1 ∨ a = 2) (hb : b = 0 ∨ b = 1 ∨ b = 2) : (if c then a else b) = 0 ∨ (if c then a else b) = 1 ∨ (if c then a else b) = 2 := by
  split
  · exact ha
  · exact hb
theorem ringI_3 (nr hh nt far bef tone rf : Int32) : ringI nr hh nt far bef tone rf = 0 ∨ ringI nr hh nt far bef tone rf = 1 ∨ ringI nr hh nt far bef tone rf = 2 :=
  or3 (Or.inr (Or.inl rfl)) (or3 (Or.inl rfl) (or3 (Or.inr (Or.inl rfl)) (or3 (Or.inr (Or.inl rfl)) (or3 (Or.inr (Or.inr rfl)) (or3 (Or.inr (Or.inl rfl)) (Or.inl rfl))))))
theorem okQ_sl {T S : Nat} {q q' : QD} (h : okQ T S q) (e : slN S q = some q') : okQ T S q' := by
  unfold slN at e
  split at e
  · rename_i c
    cases e
    obtain ⟨h1, h2, h3, h4, h5⟩ := h
    exact ⟨h1, by show 1 ≤ q.2.1 - 1; omega, by show q.2.1 - 1 ≤ 3; omega, h4, by show q.2.2.2 + 1 ≤ S; omega⟩
  · cases e
theorem okQ_cd {T S v c : Nat} {nd : ND} {q : QD} (h : okN T S v nd) (hc : c < ncN v) (e : cdN T S v nd c = some q) : okQ T S q := by
  obtain ⟨h0, h1, h2, h3, h4, h5, h6, h7, h8⟩ := h
  unfold cdN at e
  unfold ncN at hc
  by_cases c0 : v = 0
  · rw [if_pos c0] at e hc
    cases e
    exact ⟨by show c / 3 < 8; omega, by show 1 ≤ c % 3 + 1; omega, by show c % 3 + 1 ≤ 3; omega, h4, h5⟩
  · rw [if_neg c0] at e hc
    by_cases c1 : c ≤ 1
    · rw [if_pos c1] at e
      by_cases c2 : c = 1
      · rw [if_pos c2] at e; exact okQ_sl (q := (nd.2.1, nd.2.2.1, nd.2.2.2.1, nd.2.2.2.2.1)) ⟨h1, h2, h3, h4, h5⟩ e
      · rw [if_neg c2] at e; cases e; exact ⟨h1, h2, h3, h4, h5⟩
    · rw [if_neg c1] at e
      by_cases c3 : c / 2 - 1 = nd.2.1
      · rw [if_pos c3] at e; cases e
      · rw [if_neg c3] at e
        by_cases c4 : nd.2.2.2.1 < T
        · rw [if_pos c4] at e
          by_cases c5 : c % 2 = 1
          · rw [if_pos c5] at e; exact okQ_sl (q := (c / 2 - 1, nd.2.2.1, nd.2.2.2.1 + 1, nd.2.2.2.2.1)) ⟨by show c / 2 - 1 < 8; omega, h2, h3, by show nd.2.2.2.1 + 1 ≤ T; omega, h5⟩ e
          · rw [if_neg c5] at e; cases e; exact ⟨by show c / 2 - 1 < 8; omega, h2, h3, by show nd.2.2.2.1 + 1 ≤ T; omega, h5⟩
        · rw [if_neg c4] at e; cases e
theorem okN_go {F35 F36 : Nat → Int32} {nr nt nf : Int32} {a T S U v : Nat} {nd nd' : ND} {q : QD} (h : okN T S v nd) (hq : okQ T S q) (e : goN F35 F36 nr nt nf a U v nd q = some nd') : okN T S (v + 1) nd' := by
  obtain ⟨h0, h1, h2, h3, h4, h5, h6, h7, h8⟩ := h
  obtain ⟨q1, q2, q3, q4, q5⟩ := hq
  unfold goN at e
  by_cases c1 : goneF (nI (nd.1 v)) (nI q.1) (nI q.2.1) < 0
  · rw [if_pos c1] at e; cases e
  · rw [if_neg c1] at e
    by_cases c2 : nf = 0 ∧ U < nd.2.2.2.2.2.1 + q.2.1 * q.2.1
    · rw [if_pos c2] at e; cases e
    · rw [if_neg c2] at e
      by_cases c3 : rnN F35 F36 nr nt a v nd q = 0
      · rw [if_pos c3] at e; cases e
      · rw [if_neg c3] at e
        cases e
        have hr : 0 < (rnN F35 F36 nr nt a v nd q).toNatClampNeg ∧ (rnN F35 F36 nr nt a v nd q).toNatClampNeg ≤ 2 := by
          rcases ringI_3 nr (nI (v + 1)) nt (nI (awayF a (toN v nd q))) (nI (awayF a (nd.1 v))) (F36 (v + 1)) (F35 (v + 1)) with e | e | e
          · exact absurd e c3
          · rw [show rnN F35 F36 nr nt a v nd q = 1 from e]; decide
          · rw [show rnN F35 F36 nr nt a v nd q = 2 from e]; decide
        refine ⟨fun j hj => ?_, q1, q2, q3, q4, q5, ?_, ?_, ?_⟩
        · show updN nd.1 (v + 1) (toN v nd q) j < 100
          by_cases ej : j = v + 1
          · rw [ej, updN_us]
            obtain ⟨b, hb, eb⟩ := goneF_nn c1
            unfold toN
            rw [eb, nI_clamp (by omega)]
            exact hb
          · rw [updN_un ej]; exact h0 j (by omega)
        · show nd.2.2.2.2.2.1 + q.2.1 * q.2.1 ≤ 9 * (v + 1)
          have : q.2.1 * q.2.1 ≤ 3 * 3 := Nat.mul_le_mul q3 q3
          omega
        · exact Nat.mul_pos h7 hr.1
        · show nd.2.2.2.2.2.2 * _ ≤ 2 ^ (v + 1)
          rw [Nat.pow_succ]
          exact Nat.mul_le_mul h8 hr.2
/-! the rows hold a node -/
def RP (v : Nat) (R : MR) (nd : ND) : Prop := (∀ j, j ≤ v → R 45 j = nI (nd.1 j)) ∧ (0 < v → R 46 (v - 1) = nI nd.2.1 ∧ R 47 (v - 1) = nI nd.2.2.1) ∧ R 48 v = nI nd.2.2.2.1 ∧ R 49 v = nI nd.2.2.2.2.1 ∧ R 50 v = nI nd.2.2.2.2.2.1 ∧ R 51 v = nI nd.2.2.2.2.2.2
/-- below a level nothing has moved -/
def sbM (v : Nat) (R R' : MR) : Prop := (∀ j, j < v → R' 44 j = R 44 j ∧ R' 46 j = R 46 j ∧ R' 47 j = R 47 j) ∧ ∀ j, j ≤ v → R' 45 j = R 45 j ∧ R' 48 j = R 48 j ∧ R' 49 j = R 49 j ∧ R' 50 j = R 50 j ∧ R' 51 j = R 51 j
theorem sbM.rf {v : Nat} {R : MR} : sbM v R R := ⟨fun _ _ => ⟨rfl, rfl, rfl⟩, fun _ _ => ⟨rfl, rfl, rfl, rfl, rfl⟩⟩
theorem sbM.tr {v : Nat} {R R' R'' : MR} (h1 : sbM v R R') (h2 : sbM v R' R'') : sbM v R R'' :=
  ⟨fun j hj => ⟨(h2.1 j hj).1.trans (h1.1 j hj).1, (h2.1 j hj).2.1.trans (h1.1 j hj).2.1, (h2.1 j hj).2.2.trans (h1.1 j hj).2.2⟩, fun j hj => ⟨(h2.2 j hj).1.trans (h1.2 j hj).1, (h2.2 j hj).2.1.trans (h1.2 j hj).2.1, (h2.2 j hj).2.2.1.trans (h1.2 j hj).2.2.1, (h2.2 j hj).2.2.2.1.trans (h1.2 j hj).2.2.2.1, (h2.2 j hj).2.2.2.2.trans (h1.2 j hj).2.2.2.2⟩⟩
theorem sbM.dn {v : Nat} {R R' : MR} (h : sbM (v + 1) R R') : sbM v R R' := ⟨fun j hj => h.1 j (by omega), fun j hj => h.2 j (by omega)⟩
theorem RP.sb {v : Nat} {R R' : MR} {nd : ND} (h : RP v R nd) (s : sbM v R R') : RP v R' nd :=
  ⟨fun j hj => (s.2 j hj).1.trans (h.1 j hj), fun hv => ⟨(s.1 (v - 1) (by omega)).2.1.trans (h.2.1 hv).1, (s.1 (v - 1) (by omega)).2.2.trans (h.2.1 hv).2⟩, (s.2 v (Nat.le_refl _)).2.1.trans h.2.2.1, (s.2 v (Nat.le_refl _)).2.2.1.trans h.2.2.2.1, (s.2 v (Nat.le_refl _)).2.2.2.1.trans h.2.2.2.2.1, (s.2 v (Nat.le_refl _)).2.2.2.2.trans h.2.2.2.2.2⟩
theorem sbM_cd {v w : Nat} {R : MR} {c : Int32} (h : v ≤ w) : sbM v R (cdM R w c) := by
  refine ⟨fun j hj => ⟨?_, rfl, rfl⟩, fun j hj => ⟨rfl, rfl, rfl, rfl, rfl⟩⟩
  show upd (R 44) w c j = R 44 j
  exact pk_un (by omega)
theorem sbM_put {v : Nat} {R : MR} {x : Int32 × Int32 × Int32 × Int32 × Nat × Int32} : sbM v R (putM v R x) := by
  refine ⟨fun j hj => ⟨rfl, ?_, ?_⟩, fun j hj => ⟨?_, ?_, ?_, ?_, ?_⟩⟩
  · show upd (R 46) v x.1 j = R 46 j; exact pk_un (by omega)
  · show upd (R 47) v x.2.1 j = R 47 j; exact pk_un (by omega)
  · show upd (R 45) (v + 1) _ j = R 45 j; exact pk_un (by omega)
  · show upd (R 48) (v + 1) _ j = R 48 j; exact pk_un (by omega)
  · show upd (R 49) (v + 1) _ j = R 49 j; exact pk_un (by omega)
  · show upd (R 50) (v + 1) _ j = R 50 j; exact pk_un (by omega)
  · show upd (R 51) (v + 1) _ j = R 51 j; exact pk_un (by omega)
def qdI (q : QD) : Int32 × Int32 × Int32 × Int32 := (nI q.1, nI q.2.1, nI q.2.2.1, nI q.2.2.2)
theorem cod3 : ∀ c, c < 24 → nI c / 3 = nI (c / 3) ∧ nI c - nI c / 3 * 3 + 1 = nI (c % 3 + 1) := by decide +kernel
theorem cod2 : ∀ c, c < 18 → nI c - nI c / 2 * 2 = nI (c % 2) ∧ nI c / 2 = nI (c / 2) ∧ (2 ≤ c → nI (c / 2) - 1 = nI (c / 2 - 1)) := by decide +kernel
theorem pm1 : ∀ p, p < 4 → 1 ≤ p → nI p + (-1) = nI (p - 1) := by decide +kernel
theorem chk_ok {T S co p t sl : Nat} (hT : T ≤ 2) (hS : S ≤ 1) (ht : t ≤ T) (hs : sl ≤ S) (hp : 1 ≤ p) (hp3 : p ≤ 3) : chkI (nI T) (nI S) (nI co) (nI p) (nI t) (nI sl) = some (qdI (co, p, t, sl)) := by
  unfold chkI
  rw [if_neg (fun q => by have := (nI_ltI (by omega) (by omega)).mp q; omega), if_neg (fun q => by have := (nI_ltI (by omega) (by omega)).mp q; omega), if_pos (show (1 : Int32) ≤ nI p from nI_le (a := 1) hp (by omega))]
  rfl
theorem chk_t {T : Nat} {S co p sl : Int32} {t : Nat} (hT : T ≤ 2) (ht : T < t) (ht3 : t ≤ 3) : chkI (nI T) S co p (nI t) sl = none := by
  unfold chkI
  rw [if_pos (nI_lt ht (by omega))]
theorem chk_sl {T S co p t sl : Nat} (hT : T ≤ 2) (hS : S ≤ 1) (ht : t ≤ T) (hs : sl ≤ S) (hp : 1 ≤ p) (hp3 : p ≤ 3) : chkI (nI T) (nI S) (nI co) (nI p + (-1)) (nI t) (nI sl + 1) = (slN S (co, p, t, sl)).map qdI := by
  unfold chkI slN
  rw [if_neg (fun q => by have := (nI_ltI (by omega) (by omega)).mp q; omega), nI_1, pm1 p (by omega) hp]
  by_cases c1 : sl < S
  · rw [if_neg (fun q => by have := (nI_ltI (by omega) (by omega)).mp q; omega)]
    by_cases c2 : 2 ≤ p
    · rw [if_pos (show (1 : Int32) ≤ nI (p - 1) from nI_le (a := 1) (by omega) (by omega)), if_pos ⟨c1, c2⟩]; rfl
    · rw [if_neg (fun q => by have := (nI_leI (a := 1) (by omega) (by omega)).mp q; omega), if_neg (fun q => c2 q.2)]; rfl
  · rw [if_pos (nI_lt (by omega) (by omega)), if_neg (fun q => c1 q.1)]; rfl
theorem att_eq {F34 : Nat → Int32} {R : MR} {T S v c : Nat} {nd : ND} (hT : F34 3 = nI T) (hT2 : T ≤ 2) (hS : F34 4 = nI S) (hS1 : S ≤ 1) (ok : okN T S v nd) (rp : RP v R nd) (hc : c < ncN v) (hR : R 44 v = nI c) : attM F34 R v = (cdN T S v nd c).map qdI := by
  obtain ⟨h0, h1, h2, h3, h4, h5, h6, h7, h8⟩ := ok
  obtain ⟨r1, r2, r3, r4, r5, r6⟩ := rp
  unfold ncN at hc
  cases v with
  | zero =>
    show attI0 (F34 3) (F34 4) (R 44 0) (R 48 0) (R 49 0) = _
    rw [if_pos rfl] at hc
    unfold attI0 cdN
    rw [if_pos rfl, hT, hS, hR, r3, r4, (cod3 c hc).2, (cod3 c hc).1]
    exact chk_ok hT2 hS1 h4 h5 (by omega) (by omega)
  | succ w =>
    show attI1 (F34 3) (F34 4) (R 44 (w + 1)) (R 46 w) (R 47 w) (R 48 (w + 1)) (R 49 (w + 1)) = _
    rw [if_neg (by omega)] at hc
    have r2a : R 46 w = nI nd.2.1 := (r2 (by omega)).1
    have r2b : R 47 w = nI nd.2.2.1 := (r2 (by omega)).2
    unfold attI1 cdN
    rw [if_neg (show ¬ w + 1 = 0 by omega), hT, hS, hR, r3, r4, r2a, r2b, (cod2 c hc).1, (cod2 c hc).2.1]
    by_cases c1 : c ≤ 1
    · rw [if_pos (show nI c ≤ (1 : Int32) from nI_le (b := 1) c1 (by omega)), if_pos c1]
      by_cases c2 : c = 1
      · subst c2
        rw [if_pos (show nI (1 % 2) = 1 from rfl), if_pos rfl]
        exact chk_sl hT2 hS1 h4 h5 h2 h3
      · have : c = 0 := by omega
        subst this
        rw [if_neg (show ¬ nI (0 % 2) = 1 by decide), if_neg (by omega)]
        exact chk_ok hT2 hS1 h4 h5 h2 h3
    · rw [if_neg (fun q => by have := (nI_leI (b := 1) (by omega) (by omega)).mp q; omega), if_neg c1, (cod2 c hc).2.2 (by omega)]
      by_cases c3 : c / 2 - 1 = nd.2.1
      · rw [if_pos (by rw [c3]), if_pos c3]; rfl
      · rw [if_neg (fun q => c3 (by have := congrArg Int32.toNatClampNeg q; rwa [nI_clamp (by omega), nI_clamp (by omega)] at this)), if_neg c3, nI_1]
        by_cases c4 : nd.2.2.2.1 < T
        · rw [if_pos c4]
          by_cases c5 : c % 2 = 1
          · rw [if_pos (by rw [c5]; rfl), if_pos c5]
            exact chk_sl hT2 hS1 c4 h5 h2 h3
          · rw [if_neg (by rw [show c % 2 = 0 by omega]; decide), if_neg c5]
            exact chk_ok hT2 hS1 c4 h5 h2 h3
        · rw [if_neg c4]
          by_cases c5 : c % 2 = 1
          · rw [if_pos (by rw [c5]; rfl)]; exact chk_t hT2 (by omega) (by omega)
          · rw [if_neg (by rw [show c % 2 = 0 by omega]; decide)]; exact chk_t hT2 (by omega) (by omega)
