/-! goesOn gives just the list of all ways -/
set_option maxRecDepth 100000
def EnS (F34 F35 F36 : Nat → Int32) (nr nt nf : Int32) (a H : Nat) : List WY → Option Nat × MR → Prop
  | [], St => ∃ f, (runM F34 F35 F36 nr nt nf a H f St).1 = none
  | w :: ws, St => ∃ (f : Nat) (R' : MR), runM F34 F35 F36 nr nt nf a H f St = (some H, R') ∧ lfM H R' w ∧ EnS F34 F35 F36 nr nt nf a H ws (some (H - 1), R')
theorem ite_cg {α : Type} {p q : Prop} [Decidable p] [Decidable q] {x y : α} (h : p ↔ q) : (if p then x else y) = (if q then x else y) := by
  by_cases c : p
  · rw [if_pos c, if_pos (h.mp c)]
  · rw [if_neg c, if_neg (fun z => c (h.mpr z))]
section ENS
variable {F34 F35 F36 : Nat → Int32} {nr nt nf : Int32} {a H T S U : Nat}
theorem EnS_M : ∀ (ws : List WY) (v : Nat) (R : MR), EnS F34 F35 F36 nr nt nf a H ws (some (begM H v), R) → EnM F34 F35 F36 nr nt nf a H ws v R
  | [], v, R, h => h
  | w :: ws, v, R, h => by
    obtain ⟨f, R', h1, h2, h3⟩ := h
    refine ⟨f, R', h1, h2, EnS_M ws H R' ?_⟩
    rw [show begM H H = H - 1 from if_pos rfl]
    exact h3
theorem EnS_step {v : Nat} {R : MR} (hv : v < H) {ws : List WY} (h : EnS F34 F35 F36 nr nt nf a H ws (stepM F34 F35 F36 nr nt nf a v R)) : EnS F34 F35 F36 nr nt nf a H ws (some v, R) := by
  have e : ∀ f, runM F34 F35 F36 nr nt nf a H (f + 1) (some v, R) = runM F34 F35 F36 nr nt nf a H f (stepM F34 F35 F36 nr nt nf a v R) := fun f => by
    show (if v < H then _ else _) = _
    rw [if_pos hv]
  cases ws with
  | nil =>
    obtain ⟨f, hf⟩ := h
    exact ⟨f + 1, by rw [e]; exact hf⟩
  | cons w ws =>
    obtain ⟨f, R', h1, h2⟩ := h
    exact ⟨f + 1, R', by rw [e]; exact h1, h2⟩
theorem try_eq {R : MR} {v c : Nat} {nd : ND} (hT : F34 3 = nI T) (hT2 : T ≤ 2) (hS : F34 4 = nI S) (hS1 : S ≤ 1) (hU : F34 5 = nI U) (hU2 : U < 1000) (hv : v < 7) (ok : okN T S v nd) (rp : RP v R nd) (hc : c < ncN v) (hR : R 44 v = nI c) :
    tryM F34 F35 F36 nr nt nf a v R = match cdN T S v nd c with
      | none => none
      | some q => if goneF (nI (nd.1 v)) (nI q.1) (nI q.2.1) < 0 ∨ (nf = 0 ∧ U < nd.2.2.2.2.2.1 + q.2.1 * q.2.1) then none else some (nI q.1, nI q.2.1, nI q.2.2.1, nI q.2.2.2, toN v nd q, nI nd.2.2.2.2.2.2 * rnN F35 F36 nr nt a v nd q) := by
  unfold tryM
  rw [att_eq hT hT2 hS hS1 ok rp hc hR]
  cases e : cdN T S v nd c with
  | none => rfl
  | some q =>
    have hq := okQ_cd ok hc e
    have hc100 := ok.1 v (Nat.le_refl _)
    show (if goneF (R 45 v) (nI q.1) (nI q.2.1) < 0 ∨ (nf = 0 ∧ ¬ R 50 v + nI q.2.1 * nI q.2.1 ≤ F34 5) then none else some (nI q.1, nI q.2.1, nI q.2.2.1, nI q.2.2.2, (goneF (R 45 v) (nI q.1) (nI q.2.1)).toNatClampNeg, R 51 v * ringI nr (nI (v + 1)) nt (nI (awayF a (goneF (R 45 v) (nI q.1) (nI q.2.1)).toNatClampNeg)) (nI (awayF a (R 45 v).toNatClampNeg)) (F36 (v + 1)) (F35 (v + 1)))) = _
    rw [rp.1 v (Nat.le_refl _), rp.2.2.2.2.1, rp.2.2.2.2.2, hU, pk_mul, nI_add, nI_clamp (n := nd.1 v) (by omega)]
    have hq3 : q.2.1 * q.2.1 ≤ 3 * 3 := Nat.mul_le_mul hq.2.2.1 hq.2.2.1
    have hf := ok.2.2.2.2.2.2.1
    have iff : (¬ nI (nd.2.2.2.2.2.1 + q.2.1 * q.2.1) ≤ nI U) ↔ U < nd.2.2.2.2.2.1 + q.2.1 * q.2.1 := by
      rw [nI_leI (by omega) (by omega)]; omega
    exact ite_cg (or_congr Iff.rfl (and_congr Iff.rfl iff))
theorem EnS_main (hH : 0 < H) (hH6 : H ≤ 6) (hT : F34 3 = nI T) (hT2 : T ≤ 2) (hS : F34 4 = nI S) (hS1 : S ≤ 1) (hU : F34 5 = nI U) (hU2 : U < 1000) : ∀ (r v : Nat) (nd : ND) (R : MR) (cont : List WY), v + r = H → okN T S v nd → RP v R nd → (0 < r → R 44 v = -1) → (∀ R', sbM v R R' → EnS F34 F35 F36 nr nt nf a H cont (predM v, R')) → EnS F34 F35 F36 nr nt nf a H (wyN F35 F36 nr nt nf a T S U r v nd ++ cont) (some v, R) := by
  intro r
  induction r with
  | zero =>
    intro v nd R cont hv ok rp _ hk
    have hv : v = H := by omega
    subst hv
    have hp : predM v = some (v - 1) := by
      cases v with
      | zero => omega
      | succ w => rfl
    have h64 : 2 ^ v ≤ 2 ^ 6 := Nat.pow_le_pow_right (by omega) hH6
    obtain ⟨h0, h1, h2, h3, h4, h5, h6, h7, h8⟩ := ok
    refine ⟨0, R, rfl, ⟨fun j hj => ⟨rp.1 j hj, h0 j hj⟩, (rp.2.1 hH).1, h1, rp.2.2.1, ?_, rp.2.2.2.1, ?_, rp.2.2.2.2.2, ?_⟩, ?_⟩
    · show nd.2.2.2.1 < 3; omega
    · show nd.2.2.2.2.1 < 2; omega
    · show nd.2.2.2.2.2.2 ≤ 64; omega
    · rw [← hp]; exact hk R sbM.rf
  | succ r ih =>
    intro v nd R cont hv ok rp h44 hk
    have hvH : v < H := by omega
    have lp : ∀ (d c : Nat) (R1 : MR), c + d = ncN v → sbM v R R1 → R1 44 v + 1 = nI c → EnS F34 F35 F36 nr nt nf a H ((List.range' c d).flatMap (wcN F35 F36 nr nt nf a T S U r v nd) ++ cont) (some v, R1) := by
      intro d
      induction d with
      | zero =>
        intro c R1 hc sb hR
        refine EnS_step hvH ?_
        have : ¬ R1 44 v + 1 ≤ mxI v := by
          rw [hR]
          unfold mxI
          unfold ncN at hc
          by_cases c0 : v = 0
          · rw [if_pos c0] at hc ⊢; exact nI_ge (a := 23) (by omega) (by omega)
          · rw [if_neg c0] at hc ⊢; exact nI_ge (a := 17) (by omega) (by omega)
        unfold stepM
        rw [if_neg this]
        exact hk _ (sb.tr (sbM_cd (Nat.le_refl _)))
      | succ d ihd =>
        intro c R1 hc sb hR
        refine EnS_step hvH ?_
        have hle : nI c ≤ mxI v := by
          unfold mxI
          unfold ncN at hc
          by_cases c0 : v = 0
          · rw [if_pos c0] at hc ⊢; exact nI_le (b := 23) (by omega) (by omega)
          · rw [if_neg c0] at hc ⊢; exact nI_le (b := 17) (by omega) (by omega)
        unfold stepM
        rw [hR, if_pos hle]
        have sb2 : sbM v R (cdM R1 v (nI c)) := sb.tr (sbM_cd (Nat.le_refl _))
        have rp2 := rp.sb sb2
        have e44 : cdM R1 v (nI c) 44 v = nI c := pk_us
        rw [try_eq hT hT2 hS hS1 hU hU2 (by omega) ok rp2 (by omega) e44, List.range'_succ, List.flatMap_cons]
        unfold wcN
        cases e : cdN T S v nd c with
        | none => exact ihd (c + 1) _ (by omega) sb2 (by rw [e44]; exact nI_1 c)
        | some q =>
          have hq := okQ_cd ok (by omega) e
          show EnS F34 F35 F36 nr nt nf a H (((match goN F35 F36 nr nt nf a U v nd q with | none => [] | some nd' => wyN F35 F36 nr nt nf a T S U r (v + 1) nd') ++ (List.range' (c + 1) d).flatMap (wcN F35 F36 nr nt nf a T S U r v nd)) ++ cont) _
          by_cases c1 : goneF (nI (nd.1 v)) (nI q.1) (nI q.2.1) < 0
          · rw [show goN F35 F36 nr nt nf a U v nd q = none from if_pos c1]
            dsimp only
            rw [if_pos (Or.inl c1)]
            exact ihd (c + 1) _ (by omega) sb2 (by rw [e44]; exact nI_1 c)
          · by_cases c2 : nf = 0 ∧ U < nd.2.2.2.2.2.1 + q.2.1 * q.2.1
            · rw [show goN F35 F36 nr nt nf a U v nd q = none from by unfold goN; rw [if_neg c1, if_pos c2]]
              dsimp only
              rw [if_pos (Or.inr c2)]
              exact ihd (c + 1) _ (by omega) sb2 (by rw [e44]; exact nI_1 c)
            · by_cases c3 : rnN F35 F36 nr nt a v nd q = 0
              · rw [show goN F35 F36 nr nt nf a U v nd q = none from by unfold goN; rw [if_neg c1, if_neg c2, if_pos c3]]
                dsimp only
                rw [if_neg (fun h => h.elim c1 c2)]
                dsimp only
                rw [c3, if_neg (by rw [Int32.mul_zero]; decide)]
                exact ihd (c + 1) _ (by omega) (sb2.tr sbM_put) (by show cdM R1 v (nI c) 44 v + 1 = _; rw [e44]; exact nI_1 c)
              · have eg : goN F35 F36 nr nt nf a U v nd q = some (nxN F35 F36 nr nt a v nd q) := by unfold goN; rw [if_neg c1, if_neg c2, if_neg c3]
                have ok2 := okN_go ok hq eg
                rw [eg]
                dsimp only
                rw [if_neg (fun h => h.elim c1 c2)]
                dsimp only
                have hr : rnN F35 F36 nr nt a v nd q = nI (rnN F35 F36 nr nt a v nd q).toNatClampNeg := by
                  rcases ringI_3 nr (nI (v + 1)) nt (nI (awayF a (toN v nd q))) (nI (awayF a (nd.1 v))) (F36 (v + 1)) (F35 (v + 1)) with e | e | e
                  · exact absurd e c3
                  · rw [show rnN F35 F36 nr nt a v nd q = 1 from e]; decide
                  · rw [show rnN F35 F36 nr nt a v nd q = 2 from e]; decide
                have e51 : nI nd.2.2.2.2.2.2 * rnN F35 F36 nr nt a v nd q = nI (nxN F35 F36 nr nt a v nd q).2.2.2.2.2.2 := by
                  rw [hr, pk_mul]; rfl
                have h7 := ok2.2.2.2.2.2.2.2.1
                have h8 := ok2.2.2.2.2.2.2.2.2
                have h64 : 2 ^ (v + 1) ≤ 2 ^ 6 := Nat.pow_le_pow_right (by omega) (by omega)
                rw [e51, if_pos (show (0 : Int32) < nI _ from nI_lt (a := 0) h7 (by omega)), List.append_assoc]
                refine ih (v + 1) (nxN F35 F36 nr nt a v nd q) _ _ (by omega) ok2 ⟨fun j hj => ?_, fun _ => ⟨?_, ?_⟩, ?_, ?_, ?_, ?_⟩ (fun _ => ?_) (fun R' sb' => ?_)
                · show upd (cdM R1 v (nI c) 45) (v + 1) (nI (toN v nd q)) j = nI (updN nd.1 (v + 1) (toN v nd q) j)
                  by_cases ej : j = v + 1
                  · rw [ej, pk_us, updN_us]
                  · rw [pk_un ej, updN_un ej]; exact rp2.1 j (by omega)
                · exact pk_us
                · exact pk_us
                · exact pk_us
                · exact pk_us
                · show upd (cdM R1 v (nI c) 50) (v + 1) (cdM R1 v (nI c) 50 v + nI q.2.1 * nI q.2.1) (v + 1) = nI (nd.2.2.2.2.2.1 + q.2.1 * q.2.1)
                  rw [pk_us, rp2.2.2.2.2.1, pk_mul, nI_add]
                · exact pk_us
                · exact pk_us
                · have s3 := sb2.tr ((sbM_put (v := v) (R := cdM R1 v (nI c)) (x := (nI q.1, nI q.2.1, nI q.2.2.1, nI q.2.2.2, toN v nd q, nI (nxN F35 F36 nr nt a v nd q).2.2.2.2.2.2))).tr ((sbM_cd (v := v) (w := v + 1) (c := -1) (by omega)).tr sb'.dn))
                  refine ihd (c + 1) R' (by omega) s3 ?_
                  have : R' 44 v = nI c := (sb'.1 v (by omega)).1.trans ((pk_un (by omega)).trans e44)
                  rw [this]; exact nI_1 c
    rw [wyN_s, List.range_eq_range']
    exact lp (ncN v) 0 R (by omega) sbM.rf (by rw [h44 (by omega)]; rfl)
/-- all ways of a told world -/
theorem EnM_all {b : Nat} (hb : b < 100) (hF1 : F34 1 = nI b) (hH : 0 < H) (hH6 : H ≤ 6) (hT : F34 3 = nI T) (hT2 : T ≤ 2) (hS : F34 4 = nI S) (hS1 : S ≤ 1) (hU : F34 5 = nI U) (hU2 : U < 1000) (R : MR) : EnM F34 F35 F36 nr nt nf a H (wyN F35 F36 nr nt nf a T S U H 0 (rtN b)) 0 (begR (F34 1) R) := by
  refine EnS_M _ 0 _ ?_
  rw [show begM H 0 = 0 from if_neg (by omega), ← List.append_nil (wyN F35 F36 nr nt nf a T S U H 0 (rtN b))]
  refine EnS_main hH hH6 hT hT2 hS hS1 hU hU2 H 0 (rtN b) _ [] (by omega) ⟨fun _ _ => hb, by show 0 < 8; omega, Nat.le_refl _, by show 1 ≤ 3; omega, Nat.zero_le _, Nat.zero_le _, Nat.zero_le _, Nat.one_pos, Nat.le_refl _⟩ ⟨fun j hj => ?_, fun h => absurd h (by omega), ?_, ?_, ?_, ?_⟩ (fun _ => ?_) (fun R' _ => ⟨0, rfl⟩)
  · have : j = 0 := by omega
    subst this
    exact pk_us.trans hF1
  · exact pk_us
  · exact pk_us
  · exact pk_us
  · exact pk_us
  · exact pk_us
end ENS
