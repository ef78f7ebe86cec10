/-! PURE: the reference's sums are the component's -/
set_option maxRecDepth 100000
theorem foS_upd {f : Nat → Nat} {k x : Nat} : ∀ N, foS (updN f k (f k + x)) N ≤ foS f N + x
  | 0 => Nat.zero_le _
  | N + 1 => by
    have ih := foS_upd (f := f) (k := k) (x := x) N
    show foS (updN f k (f k + x)) N + updN f k (f k + x) N ≤ foS f N + f N + x
    by_cases e : N = k
    · subst e
      rw [updN_us]
      have : foS (updN f N (f N + x)) N = foS f N := by
        have : ∀ M, M ≤ N → foS (updN f N (f N + x)) M = foS f M := by
          intro M hM
          induction M with
          | zero => rfl
          | succ M ih2 =>
            show foS (updN f N (f N + x)) M + updN f N (f N + x) M = foS f M + f M
            rw [ih2 (by omega), updN_un (by omega)]
        exact this N (Nat.le_refl _)
      omega
    · rw [updN_un e]
      omega
theorem gl_su {cell co : Int32} {o : Nat} {f : Nat → Nat} : ∀ k, foS (glN cell co o f k) 100 ≤ foS f 100 + k * o
  | 0 => by show foS f 100 ≤ _; omega
  | k + 1 => by
    have ih := gl_su (cell := cell) (co := co) (o := o) (f := f) k
    have e1 : (k + 1) * o = k * o + o := Nat.succ_mul _ _
    rw [glN]
    by_cases c : goneF cell co (nI (k + 1)) < 0
    · rw [if_pos c]; omega
    · rw [if_neg c]
      have := foS_upd (f := glN cell co o f k) (k := (goneF cell co (nI (k + 1))).toNatClampNeg) (x := o) 100
      omega
theorem way_su {T S H g : Nat} {w : WY} {f : Nat → Nat} (hT : T ≤ 2) (hS : S ≤ 1) (hH : H ≤ 6) (hg : g ≤ 3) (ow : owW T S H w) : foS (wayN H g w f) 100 ≤ foS f 100 + 10240 := by
  have h64 : 2 ^ H ≤ 64 := Nat.pow_le_pow_right (n := 2) (by omega) hH
  obtain ⟨e1, e2⟩ := hv_eq w.2.2.1 (by have := ow.1; omega) w.2.2.2.1 (by have := ow.2.1; omega) w.2.2.2.2 (by have := ow.2.2; omega)
  unfold wayN
  have h1 := gl_su (cell := nI (w.1 H)) (co := nI w.2.1) (o := hvN w.2.2.1 w.2.2.2.1 w.2.2.2.2) (f := updN f (w.1 H) (f (w.1 H) + 2 * hvN w.2.2.1 w.2.2.2.1 w.2.2.2.2)) g
  have h2 : g * hvN w.2.2.1 w.2.2.2.1 w.2.2.2.2 ≤ 3 * 2048 := Nat.mul_le_mul hg e2
  have h3 := foS_upd (f := f) (k := w.1 H) (x := 2 * hvN w.2.2.1 w.2.2.2.1 w.2.2.2.2) 100
  omega
theorem ways_su {T S H g : Nat} (hT : T ≤ 2) (hS : S ≤ 1) (hH : H ≤ 6) (hg : g ≤ 3) : ∀ (ws : List WY) (f : Nat → Nat), (∀ w ∈ ws, owW T S H w) → foS (waysN H g ws f) 100 ≤ foS f 100 + 10240 * ws.length
  | [], f, _ => Nat.le_refl _
  | w :: ws, f, h => by
    have h1 := ways_su hT hS hH hg ws (wayN H g w f) (fun x hx => h x (List.mem_cons_of_mem _ hx))
    have h2 := way_su (f := f) hT hS hH hg (h w List.mem_cons_self)
    rw [waysN, List.length_cons]
    omega
theorem ways_all {F35 F36 : Nat → Int32} {nr nt nf : Int32} {a b H T S U g : Nat} (hb : b < 100) (hH : 0 < H) (hH6 : H ≤ 6) (hT : T ≤ 2) (hS : S ≤ 1) (hg : g ≤ 3) : foS (waysN H g (wyN F35 F36 nr nt nf a T S U H 0 (rtN b)) (fun _ => 0)) 100 < 2 ^ 30 := by
  have hm := wy_mem (F35 := F35) (F36 := F36) (nr := nr) (nt := nt) (nf := nf) (a := a) (U := U) (H := H) H 0 (rtN b) (by omega) (rt_ok (T := T) (S := S) hb)
  have hl := all_len (F35 := F35) (F36 := F36) (nr := nr) (nt := nt) (nf := nf) (a := a) (U := U) hb hH hH6 hT hS
  have := ways_su (g := g) hT hS hH6 hg _ (fun _ => 0) hm
  rw [show foS (fun _ => 0) 100 = 0 from by decide] at this
  omega
theorem foS_mul {f g : Nat → Nat} {c : Nat} : ∀ N, (∀ j, j < N → f j ≤ g j * c) → foS f N ≤ foS g N * c
  | 0, _ => Nat.zero_le _
  | N + 1, h => by
    show foS f N + f N ≤ (foS g N + g N) * c
    rw [Nat.add_mul]
    have := foS_mul N (fun j hj => h j (by omega))
    have := h N (by omega)
    omega
theorem sN_su {F : Nat → Nat → Int32} {lp : Nat → Bool} {ld : Bool} {EN : Nat → Nat} {np nd : Nat} (h1 : np ≤ 4) (h2 : nd ≤ 4) (h3 : foS EN 100 < 2 ^ 30) : foS (sN F lp ld EN np nd) 100 < 2 ^ 50 := by
  have : foS (sN F lp ld EN np nd) 100 ≤ foS EN 100 * 2 ^ 20 := foS_mul 100 (fun j _ => by
    unfold sN
    have e1 : pN F lp j np ≤ 4 ^ 4 := Nat.le_trans (pN_le np) (Nat.pow_le_pow_right (by omega) h1)
    have e2 : dN F ld j nd ≤ 8 ^ 4 := Nat.le_trans (dN_le nd) (Nat.pow_le_pow_right (by omega) h2)
    rw [Nat.mul_assoc]
    exact Nat.mul_le_mul (Nat.le_refl _) (Nat.le_trans (Nat.mul_le_mul e1 e2) (by decide)))
  have h4 : foS EN 100 * 2 ^ 20 < 2 ^ 30 * 2 ^ 20 := Nat.mul_lt_mul_of_pos_right h3 (by decide)
  have h5 : (2 : Nat) ^ 30 * 2 ^ 20 = 2 ^ 50 := by decide
  omega
