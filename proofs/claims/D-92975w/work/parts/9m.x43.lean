-- Obj fields dict_keys(['cls', 'fun', 'sname', 'refs', 'extra', 'ups'])
/-! the component: type, its law -/
set_option maxRecDepth 100000
theorem tyB_1 {w : Int64} : ∀ f k, (∀ j, k ≤ j → j < k + f → ¬ b2i (inL (chL w (nI j)) 32 126) = 0) → tyB w f k = 1
  | 0, k, _ => rfl
  | f + 1, k, h => by
    rw [tyB, if_pos (h k (Nat.le_refl _) (by omega))]
    exact tyB_1 f (k + 1) (fun j h1 h2 => h j (by omega) (by omega))
theorem tyB_0 {w : Int64} {j : Nat} (hj : b2i (inL (chL w (nI j)) 32 126) = 0) : ∀ f k, k ≤ j → j < k + f → tyB w f k = 0
  | 0, k, h1, h2 => by omega
  | f + 1, k, h1, h2 => by
    rw [tyB]
    by_cases e : j = k
    · subst e; rw [if_neg (not_not_intro hj)]
    · split
      · exact tyB_0 hj f (k + 1) (by omega) (by omega)
      · rfl
