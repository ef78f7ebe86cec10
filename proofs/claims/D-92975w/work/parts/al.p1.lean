/-! PURE: the sums of the ways are numbers below 2^30 -/
set_option maxRecDepth 100000
/-- so many ways at most from a node behind the first hour: hours, turns, slowings that are left -/
def ctN : Nat → Nat → Nat → Nat
  | 0, _, _ => 1
  | r + 1, t, s => ctN r t s + (if 0 < s then ctN r t (s - 1) else 0) + 7 * ((if 0 < t then ctN r (t - 1) s else 0) + (if 0 < t ∧ 0 < s then ctN r (t - 1) (s - 1) else 0))
theorem ctN_le : ∀ r, r < 6 → ∀ t, t < 3 → ∀ s, s < 2 → ctN r t s ≤ 3156 := by decide +kernel
theorem sum_le {f g : Nat → Nat} : ∀ (l : List Nat), (∀ c ∈ l, f c ≤ g c) → (l.map f).sum ≤ (l.map g).sum
  | [], _ => Nat.le_refl _
  | c :: l, h => by
    rw [List.map_cons, List.map_cons, List.sum_cons, List.sum_cons]
    have h1 := h c List.mem_cons_self
    have h2 := sum_le l (fun x hx => h x (List.mem_cons_of_mem _ hx))
    omega
theorem fl_len {f : Nat → List WY} : ∀ l : List Nat, (l.flatMap f).length = (l.map fun c => (f c).length).sum
  | [] => rfl
  | c :: l => by rw [List.flatMap_cons, List.length_append, List.map_cons, List.sum_cons, fl_len l]
theorem cod_sum {A B C D : Nat} : ∀ k, k < 8 → ((List.range 18).map fun c => if c = 0 then A else if c = 1 then B else if c / 2 - 1 = k then 0 else if c % 2 = 1 then D else C).sum = A + B + 7 * (C + D) := by
  intro k hk
  rcases (show k = 0 ∨ k = 1 ∨ k = 2 ∨ k = 3 ∨ k = 4 ∨ k = 5 ∨ k = 6 ∨ k = 7 by omega) with rfl | rfl | rfl | rfl | rfl | rfl | rfl | rfl <;> (simp [List.range, List.range.loop]; omega)
theorem rt_ok {T S b : Nat} (hb : b < 100) : okN T S 0 (rtN b) := ⟨fun _ _ => hb, (by decide : (0 : Nat) < 8), (by decide : (1 : Nat) ≤ 1), (by decide : (1 : Nat) ≤ 3), Nat.zero_le _, Nat.zero_le _, Nat.le_refl _, (by decide : (0 : Nat) < 1), Nat.le_refl _⟩
section PW1
variable {F35 F36 : Nat → Int32} {nr nt nf : Int32} {a T S U : Nat}
theorem go_q {v : Nat} {nd nd' : ND} {q : QD} (e : goN F35 F36 nr nt nf a U v nd q = some nd') : nd'.2.2.2.1 = q.2.2.1 ∧ nd'.2.2.2.2.1 = q.2.2.2 := by
  unfold goN at e
  split at e
  · cases e
  · split at e
    · cases e
    · split at e
      · cases e
      · cases e; exact ⟨rfl, rfl⟩
theorem wy_len : ∀ (r v : Nat) (nd : ND), 0 < v → okN T S v nd → (wyN F35 F36 nr nt nf a T S U r v nd).length ≤ ctN r (T - nd.2.2.2.1) (S - nd.2.2.2.2.1)
  | 0, v, nd, hv, ok => Nat.le_refl _
  | r + 1, v, nd, hv, ok => by
    rw [wyN_s, fl_len, show ncN v = 18 from if_neg (by omega)]
    have ok' := ok
    obtain ⟨h0, h1, h2, h3, h4, h5, h6, h7, h8⟩ := ok'
    refine Nat.le_trans (sum_le (g := fun c => if c = 0 then ctN r (T - nd.2.2.2.1) (S - nd.2.2.2.2.1) else if c = 1 then (if 0 < S - nd.2.2.2.2.1 then ctN r (T - nd.2.2.2.1) (S - nd.2.2.2.2.1 - 1) else 0) else if c / 2 - 1 = nd.2.1 then 0 else if c % 2 = 1 then (if 0 < T - nd.2.2.2.1 ∧ 0 < S - nd.2.2.2.2.1 then ctN r (T - nd.2.2.2.1 - 1) (S - nd.2.2.2.2.1 - 1) else 0) else (if 0 < T - nd.2.2.2.1 then ctN r (T - nd.2.2.2.1 - 1) (S - nd.2.2.2.2.1) else 0)) _ (fun c hc => ?_)) ?_
    · have hc18 : c < ncN v := by rw [show ncN v = 18 from if_neg (by omega)]; exact List.mem_range.mp hc
      have main : ∀ q : QD, cdN T S v nd c = some q → (wcN F35 F36 nr nt nf a T S U r v nd c).length ≤ ctN r (T - q.2.2.1) (S - q.2.2.2) := by
        intro q hq
        unfold wcN
        rw [hq]
        show (match goN F35 F36 nr nt nf a U v nd q with | none => [] | some nd' => wyN F35 F36 nr nt nf a T S U r (v + 1) nd').length ≤ _
        cases hg : goN F35 F36 nr nt nf a U v nd q with
        | none => exact Nat.zero_le _
        | some nd' =>
          obtain ⟨e1, e2⟩ := go_q hg
          rw [← e1, ← e2]
          exact wy_len r (v + 1) nd' (by omega) (okN_go ok (okQ_cd ok hc18 hq) hg)
      have zero : cdN T S v nd c = none → (wcN F35 F36 nr nt nf a T S U r v nd c).length = 0 := by
        intro hq
        unfold wcN
        rw [hq]
        rfl
      have hcd : cdN T S v nd c = if c ≤ 1 then (if c = 1 then slN S (nd.2.1, nd.2.2.1, nd.2.2.2.1, nd.2.2.2.2.1) else some (nd.2.1, nd.2.2.1, nd.2.2.2.1, nd.2.2.2.2.1)) else if c / 2 - 1 = nd.2.1 then none else if nd.2.2.2.1 < T then (if c % 2 = 1 then slN S (c / 2 - 1, nd.2.2.1, nd.2.2.2.1 + 1, nd.2.2.2.2.1) else some (c / 2 - 1, nd.2.2.1, nd.2.2.2.1 + 1, nd.2.2.2.2.1)) else none := by
        unfold cdN
        rw [if_neg (by omega)]
      have sl : ∀ (x p t2 : Nat), cdN T S v nd c = slN S (x, p, t2, nd.2.2.2.2.1) → (wcN F35 F36 nr nt nf a T S U r v nd c).length ≤ (if 0 < S - nd.2.2.2.2.1 then ctN r (T - t2) (S - nd.2.2.2.2.1 - 1) else 0) := by
        intro x p t2 e
        by_cases c1 : nd.2.2.2.2.1 < S ∧ 2 ≤ p
        · rw [if_pos (by omega)]
          have e2 := main (x, p - 1, t2, nd.2.2.2.2.1 + 1) (by rw [e]; unfold slN; rw [if_pos c1])
          rw [show S - nd.2.2.2.2.1 - 1 = S - (nd.2.2.2.2.1 + 1) by omega]
          exact e2
        · rw [zero (by rw [e]; unfold slN; rw [if_neg c1])]
          exact Nat.zero_le _
      by_cases c0 : c = 0
      · rw [if_pos c0]
        exact main (nd.2.1, nd.2.2.1, nd.2.2.2.1, nd.2.2.2.2.1) (by rw [hcd, if_pos (by omega), if_neg (by omega)])
      · rw [if_neg c0]
        by_cases c1 : c = 1
        · rw [if_pos c1]
          exact sl nd.2.1 nd.2.2.1 nd.2.2.2.1 (by rw [hcd, if_pos (by omega), if_pos c1])
        · rw [if_neg c1]
          by_cases c2 : c / 2 - 1 = nd.2.1
          · rw [if_pos c2, zero (by rw [hcd, if_neg (by omega), if_pos c2])]
            exact Nat.le_refl _
          · rw [if_neg c2]
            by_cases c3 : nd.2.2.2.1 < T
            · by_cases c4 : c % 2 = 1
              · rw [if_pos c4]
                have e := sl (c / 2 - 1) nd.2.2.1 (nd.2.2.2.1 + 1) (by rw [hcd, if_neg (by omega), if_neg c2, if_pos c3, if_pos c4])
                rw [show T - nd.2.2.2.1 - 1 = T - (nd.2.2.2.1 + 1) by omega]
                by_cases c5 : 0 < S - nd.2.2.2.2.1
                · rw [if_pos c5] at e
                  rw [if_pos ⟨by omega, c5⟩]
                  exact e
                · rw [if_neg c5] at e
                  omega
              · rw [if_neg c4, if_pos (by omega)]
                have e := main (c / 2 - 1, nd.2.2.1, nd.2.2.2.1 + 1, nd.2.2.2.2.1) (by rw [hcd, if_neg (by omega), if_neg c2, if_pos c3, if_neg c4])
                rw [show T - nd.2.2.2.1 - 1 = T - (nd.2.2.2.1 + 1) by omega]
                exact e
            · rw [zero (by rw [hcd, if_neg (by omega), if_neg c2, if_neg c3])]
              exact Nat.zero_le _
    · rw [cod_sum _ h1]
      exact Nat.le_of_eq (by rw [ctN])
theorem all_len {b H : Nat} (hb : b < 100) (hH : 0 < H) (hH6 : H ≤ 6) (hT : T ≤ 2) (hS : S ≤ 1) : (wyN F35 F36 nr nt nf a T S U H 0 (rtN b)).length ≤ 75744 := by
  obtain ⟨r, rfl⟩ : ∃ r, H = r + 1 := ⟨H - 1, by omega⟩
  have ok : okN T S 0 (rtN b) := rt_ok hb
  rw [wyN_s, fl_len, show ncN 0 = 24 from rfl]
  refine Nat.le_trans (sum_le (g := fun _ => 3156) _ (fun c hc => ?_)) (by decide)
  have hc24 : c < ncN 0 := List.mem_range.mp hc
  unfold wcN
  rw [show cdN T S 0 (rtN b) c = some (c / 3, c % 3 + 1, 0, 0) from rfl]
  show (match goN F35 F36 nr nt nf a U 0 (rtN b) (c / 3, c % 3 + 1, 0, 0) with | none => [] | some nd' => wyN F35 F36 nr nt nf a T S U r 1 nd').length ≤ _
  cases hg : goN F35 F36 nr nt nf a U 0 (rtN b) (c / 3, c % 3 + 1, 0, 0) with
  | none => exact Nat.zero_le _
  | some nd' =>
    have h1 := wy_len (F35 := F35) (F36 := F36) (nr := nr) (nt := nt) (nf := nf) (a := a) (U := U) r 1 nd' (by omega) (okN_go ok (okQ_cd ok hc24 rfl) hg)
    obtain ⟨e1, e2⟩ := go_q hg
    rw [e1, e2] at h1
    exact Nat.le_trans h1 (ctN_le r (by omega) _ (by show T - 0 < 3; omega) _ (by show S - 0 < 2; omega))
/-- what a way's numbers are -/
def owW (T S H : Nat) (w : WY) : Prop := w.2.2.1 ≤ T ∧ w.2.2.2.1 ≤ S ∧ w.2.2.2.2 ≤ 2 ^ H
theorem wy_mem {H : Nat} : ∀ (r v : Nat) (nd : ND), v + r = H → okN T S v nd → ∀ w ∈ wyN F35 F36 nr nt nf a T S U r v nd, owW T S H w
  | 0, v, nd, hv, ok, w, hw => by
    rcases List.mem_singleton.mp hw with rfl
    obtain ⟨h0, h1, h2, h3, h4, h5, h6, h7, h8⟩ := ok
    exact ⟨h4, h5, by rw [← hv]; exact h8⟩
  | r + 1, v, nd, hv, ok, w, hw => by
    rw [wyN_s] at hw
    obtain ⟨c, hc, hw⟩ := List.mem_flatMap.mp hw
    unfold wcN at hw
    cases hq : cdN T S v nd c with
    | none => rw [hq] at hw; cases hw
    | some q =>
      rw [hq] at hw
      replace hw : w ∈ (match goN F35 F36 nr nt nf a U v nd q with | none => [] | some nd' => wyN F35 F36 nr nt nf a T S U r (v + 1) nd') := hw
      cases hg : goN F35 F36 nr nt nf a U v nd q with
      | none => rw [hg] at hw; cases hw
      | some nd' =>
        rw [hg] at hw
        exact wy_mem r (v + 1) nd' (by omega) (okN_go ok (okQ_cd ok (List.mem_range.mp hc) hq) hg) w hw
end PW1
def hvN (t s r : Nat) : Nat := (if t = 0 then 32 else if t = 1 then 8 else 2) / (if s = 0 then 1 else 2) * r
theorem hv_eq : ∀ t, t < 3 → ∀ s, s < 2 → ∀ r, r < 65 → heavyI t (nI s) (nI r) = nI (hvN t s r) ∧ hvN t s r ≤ 2048 := by decide +kernel
def glN (cell co : Int32) (o : Nat) (f : Nat → Nat) : Nat → Nat → Nat
  | 0 => f
  | k + 1 => if goneF cell co (nI (k + 1)) < 0 then glN cell co o f k else updN (glN cell co o f k) (goneF cell co (nI (k + 1))).toNatClampNeg (glN cell co o f k (goneF cell co (nI (k + 1))).toNatClampNeg + o)
theorem gl_eq {cell co : Int32} {o : Nat} {f : Nat → Nat} : ∀ k, glF cell co (lN o) (fun j => lN (f j)) k = fun j => lN (glN cell co o f k j)
  | 0 => rfl
  | k + 1 => by
    rw [glF, gl_eq k]
    funext j
    show _ = lN ((if goneF cell co (nI (k + 1)) < 0 then glN cell co o f k else updN (glN cell co o f k) (goneF cell co (nI (k + 1))).toNatClampNeg (glN cell co o f k (goneF cell co (nI (k + 1))).toNatClampNeg + o)) j)
    by_cases c : goneF cell co (nI (k + 1)) < 0
    · rw [if_pos c, if_pos c]
    · rw [if_neg c, if_neg c]
      unfold vp_updL updN
      by_cases e : j = (goneF cell co (nI (k + 1))).toNatClampNeg
      · rw [if_pos e, if_pos e, lN_add]
      · rw [if_neg e, if_neg e]
theorem gl_le {cell co : Int32} {o : Nat} {f : Nat → Nat} : ∀ k j, glN cell co o f k j ≤ f j + k * o
  | 0, j => by show f j ≤ _; omega
  | k + 1, j => by
    have ih := gl_le (cell := cell) (co := co) (o := o) (f := f) k
    show (if goneF cell co (nI (k + 1)) < 0 then glN cell co o f k else updN (glN cell co o f k) (goneF cell co (nI (k + 1))).toNatClampNeg (glN cell co o f k (goneF cell co (nI (k + 1))).toNatClampNeg + o)) j ≤ _
    have e1 : (k + 1) * o = k * o + o := Nat.succ_mul _ _
    by_cases c : goneF cell co (nI (k + 1)) < 0
    · rw [if_pos c]
      have := ih j
      omega
    · rw [if_neg c]
      unfold updN
      by_cases e : j = (goneF cell co (nI (k + 1))).toNatClampNeg
      · rw [if_pos e, ← e]
        have := ih j
        omega
      · rw [if_neg e]
        have := ih j
        omega
def wayN (H g : Nat) (w : WY) (f : Nat → Nat) : Nat → Nat := glN (nI (w.1 H)) (nI w.2.1) (hvN w.2.2.1 w.2.2.2.1 w.2.2.2.2) (updN f (w.1 H) (f (w.1 H) + 2 * hvN w.2.2.1 w.2.2.2.1 w.2.2.2.2)) g
def waysN (H g : Nat) : List WY → (Nat → Nat) → Nat → Nat
  | [], f => f
  | w :: ws, f => waysN H g ws (wayN H g w f)
theorem way_eq {T S H g : Nat} {w : WY} {f : Nat → Nat} (hT : T ≤ 2) (hS : S ≤ 1) (hH : H ≤ 6) (ow : owW T S H w) : wayS H g w (fun j => lN (f j)) = fun j => lN (wayN H g w f j) := by
  have h64 : 2 ^ H ≤ 64 := Nat.pow_le_pow_right (n := 2) (by omega) hH
  obtain ⟨e1, e2⟩ := hv_eq w.2.2.1 (by have := ow.1; omega) w.2.2.2.1 (by have := ow.2.1; omega) w.2.2.2.2 (by have := ow.2.2; omega)
  have eo : (ownW w).toInt64 = lN (hvN w.2.2.1 w.2.2.2.1 w.2.2.2.2) := by
    unfold ownW
    rw [e1, nI_l (by omega)]
  unfold wayS wayN
  rw [eo, ← gl_eq]
  congr 1
  funext j
  unfold vp_updL updN
  by_cases c : j = w.1 H
  · rw [if_pos c, if_pos c, show (2 : Int64) = lN 2 from rfl, lN_mul, lN_add]
  · rw [if_neg c, if_neg c]
theorem way_le {T S H g : Nat} {w : WY} {f : Nat → Nat} (hT : T ≤ 2) (hS : S ≤ 1) (hH : H ≤ 6) (hg : g ≤ 3) (ow : owW T S H w) (j : Nat) : wayN H g w f j ≤ f j + 10240 := by
  have h64 : 2 ^ H ≤ 64 := Nat.pow_le_pow_right (n := 2) (by omega) hH
  obtain ⟨e1, e2⟩ := hv_eq w.2.2.1 (by have := ow.1; omega) w.2.2.2.1 (by have := ow.2.1; omega) w.2.2.2.2 (by have := ow.2.2; omega)
  unfold wayN
  have h1 := gl_le (cell := nI (w.1 H)) (co := nI w.2.1) (o := hvN w.2.2.1 w.2.2.2.1 w.2.2.2.2) (f := updN f (w.1 H) (f (w.1 H) + 2 * hvN w.2.2.1 w.2.2.2.1 w.2.2.2.2)) g j
  have h2 : g * hvN w.2.2.1 w.2.2.2.1 w.2.2.2.2 ≤ 3 * 2048 := Nat.mul_le_mul hg e2
  have h3 : updN f (w.1 H) (f (w.1 H) + 2 * hvN w.2.2.1 w.2.2.2.1 w.2.2.2.2) j ≤ f j + 4096 := by
    unfold updN
    by_cases c : j = w.1 H
    · rw [if_pos c, c]; omega
    · rw [if_neg c]; omega
  omega
theorem ways_eq {T S H g : Nat} (hT : T ≤ 2) (hS : S ≤ 1) (hH : H ≤ 6) : ∀ (ws : List WY) (f : Nat → Nat), (∀ w ∈ ws, owW T S H w) → waysS H g ws (fun j => lN (f j)) = fun j => lN (waysN H g ws f j)
  | [], f, _ => rfl
  | w :: ws, f, h => by
    rw [waysS, waysN, way_eq hT hS hH (h w List.mem_cons_self)]
    exact ways_eq hT hS hH ws _ (fun x hx => h x (List.mem_cons_of_mem _ hx))
theorem ways_le {T S H g : Nat} (hT : T ≤ 2) (hS : S ≤ 1) (hH : H ≤ 6) (hg : g ≤ 3) : ∀ (ws : List WY) (f : Nat → Nat), (∀ w ∈ ws, owW T S H w) → ∀ j, waysN H g ws f j ≤ f j + 10240 * ws.length
  | [], f, _, j => Nat.le_refl _
  | w :: ws, f, h, j => by
    have h1 := ways_le hT hS hH hg ws (wayN H g w f) (fun x hx => h x (List.mem_cons_of_mem _ hx)) j
    have h2 := way_le (f := f) hT hS hH hg (h w List.mem_cons_self) j
    rw [waysN, List.length_cons]
    omega
/-- the sums of all ways -/
theorem ways_num {F35 F36 : Nat → Int32} {nr nt nf : Int32} {a b H T S U g : Nat} (hb : b < 100) (hH : 0 < H) (hH6 : H ≤ 6) (hT : T ≤ 2) (hS : S ≤ 1) (hg : g ≤ 3) (j : Nat) :
    waysS H g (wyN F35 F36 nr nt nf a T S U H 0 (rtN b)) (fun _ => 0) j = lN (waysN H g (wyN F35 F36 nr nt nf a T S U H 0 (rtN b)) (fun _ => 0) j) ∧ waysN H g (wyN F35 F36 nr nt nf a T S U H 0 (rtN b)) (fun _ => 0) j < 2 ^ 30 := by
  have ok : okN T S 0 (rtN b) := rt_ok hb
  have hm := wy_mem (F35 := F35) (F36 := F36) (nr := nr) (nt := nt) (nf := nf) (a := a) (U := U) (H := H) H 0 (rtN b) (by omega) ok
  have hl := all_len (F35 := F35) (F36 := F36) (nr := nr) (nt := nt) (nf := nf) (a := a) (U := U) hb hH hH6 hT hS
  constructor
  · exact congrFun (ways_eq hT hS hH6 _ (fun _ => 0) hm) j
  · have := ways_le (g := g) hT hS hH6 hg _ (fun _ => 0) hm j
    omega
