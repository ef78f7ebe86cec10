-- Obj fields dict_keys(['cls', 'fun', 'sname', 'refs', 'extra', 'ups'])
/-! the component: movesBy, moves -/
set_option maxRecDepth 100000
theorem FLG_c : ∀ c, c < 13 → FLG (nI c) 0 (fR (nI c)) (fT (nI c)) (fF (nI c)) := by
  unfold FLG
  decide +kernel
theorem thV_div {x A : Nat} (hA : 0 < A) : ∀ k, A * thV x A k + thR x A k = x * 10 ^ k
  | 0 => by
    show A * 0 + x = x * 10 ^ 0
    rw [Nat.mul_zero, Nat.zero_add, Nat.pow_zero, Nat.mul_one]
  | k + 1 => by
    have ih := thV_div (x := x) hA k
    show A * (10 * thV x A k + thR x A k * 10 / A) + thR x A k * 10 % A = x * 10 ^ (k + 1)
    rw [Nat.mul_add, Nat.add_assoc, Nat.div_add_mod, Nat.pow_succ, ← Nat.mul_assoc x, ← ih, Nat.add_mul, ← Nat.mul_assoc, Nat.mul_comm A 10, Nat.mul_assoc 10, Nat.mul_comm 10]
theorem thV_3 {x A : Nat} (hA : 0 < A) : thV x A 3 = x * 1000 / A := by
  have h := thV_div (x := x) hA 3
  have hr : thR x A 3 < A := Nat.mod_lt _ hA
  rw [show (10 : Nat) ^ 3 = 1000 from rfl] at h
  rw [← h, Nat.mul_add_div hA, Nat.div_eq_of_lt hr, Nat.add_zero]
theorem thF_n {x A : Nat} (hA : 0 < A) (hx : x < 2 ^ 63) (hA2 : A < 2 ^ 63) : thF x A = nI (x * 1000 / A) := by
  unfold thF
  by_cases e : lN x = lN A
  · rw [if_neg (not_not_intro e), (pk_lEQ hx hA2).mp e, Nat.mul_div_cancel_left 1000 hA]; rfl
  · rw [if_pos e, thV_3 hA]
/-- how far shares lie from shares, in thousandths -/
def mvN (S0 : Nat → Nat) (A0 : Nat) (S1 : Nat → Nat) (A1 : Nat) : Nat → Nat
  | 0 => 0
  | k + 1 => mvN S0 A0 S1 A1 k + ((S0 k * 1000 / A0 - S1 k * 1000 / A1) + (S1 k * 1000 / A1 - S0 k * 1000 / A0))
theorem lN_sub2 {p q : Nat} (h : q ≤ p) : lN p - lN q = lN (p - q) := by
  rw [show lN p = lN (p - q + q) from by rw [Nat.sub_add_cancel h], ← lN_add]; exact Int64.add_sub_cancel _ _
theorem mv_neg : ∀ d, d < 1001 → ¬ 0 < -(lN d) := by decide +kernel
theorem mv_abs {p q : Nat} (hp : p ≤ 1000) (hq : q ≤ 1000) : (if 0 < lN p - lN q then lN p - lN q else -(lN p - lN q)) = lN ((p - q) + (q - p)) := by
  by_cases e : q < p
  · rw [lN_sub2 (by omega), if_pos (show (0 : Int64) < lN (p - q) from (pk_lLT (a := 0) (b := p - q) (by omega) (by omega)).mpr (by omega)), show q - p = 0 by omega, Nat.add_zero]
  · have h2 : lN p - lN q = -(lN (q - p)) := by rw [← lN_sub2 (by omega), Int64.neg_sub]
    rw [show p - q = 0 by omega, Nat.zero_add, h2, if_neg (mv_neg _ (by omega)), Int64.neg_neg]
theorem mi_neg : ∀ d, d < 1001 → d ≠ 0 → ¬ 0 ≤ -(nI d) := by decide +kernel
theorem mi_abs {p q : Nat} (hp : p ≤ 1000) (hq : q ≤ 1000) : (if 0 ≤ nI p - nI q then nI p - nI q else -(nI p - nI q)) = nI ((q - p) + (p - q)) := by
  by_cases e : q ≤ p
  · have h1 : nI p - nI q = nI (p - q) := by rw [show nI p = nI (p - q + q) from by rw [Nat.sub_add_cancel e]]; exact nI_sub2 _ _
    rw [h1, if_pos (nI_nn (by omega)), show q - p = 0 by omega, Nat.zero_add]
  · have h1 : nI q - nI p = nI (q - p) := by rw [show nI q = nI (q - p + p) from by rw [Nat.sub_add_cancel (by omega)]]; exact nI_sub2 _ _
    have h2 : nI p - nI q = -(nI (q - p)) := by rw [← h1, Int32.neg_sub]
    rw [h2, if_neg (mi_neg _ (by omega) (by omega)), Int32.neg_neg, show p - q = 0 by omega, Nat.add_zero]
theorem th_le {x A : Nat} (h : x ≤ A) (hA : 0 < A) : x * 1000 / A ≤ 1000 := by
  refine Nat.le_trans (Nat.div_le_div_right (Nat.mul_le_mul_right 1000 h)) ?_
  rw [Nat.mul_div_cancel_left 1000 hA]; exact Nat.le_refl _
theorem mvD_n {S0 S1 : Nat → Nat} {A0 A1 : Nat} (h0 : 0 < A0) (h1 : 0 < A1) (b0 : A0 < 2 ^ 63) (b1 : A1 < 2 ^ 63) : ∀ k, (∀ j, j < k → S0 j ≤ A0 ∧ S1 j ≤ A1) → mvD S1 A1 (fun j => thF (S0 j) A0) k = nI (mvN S0 A0 S1 A1 k)
  | 0, _ => rfl
  | k + 1, h => by
    have hk := h k (by omega)
    show mvD S1 A1 (fun j => thF (S0 j) A0) k + (if 0 ≤ thF (S1 k) A1 - thF (S0 k) A0 then thF (S1 k) A1 - thF (S0 k) A0 else - (thF (S1 k) A1 - thF (S0 k) A0)) = _
    rw [mvD_n h0 h1 b0 b1 k (fun j hj => h j (by omega)), thF_n h1 (by omega) b1, thF_n h0 (by omega) b0, mi_abs (th_le hk.2 h1) (th_le hk.1 h0), nI_add]
    rfl
theorem mvF_n {S0 S1 : Nat → Nat} {A0 A1 : Nat} (h0 : 0 < A0) (h1 : 0 < A1) (b0 : A0 < 2 ^ 63) (b1 : A1 < 2 ^ 63) (h : ∀ j, j < 100 → S0 j ≤ A0 ∧ S1 j ≤ A1) : mvF S0 A0 S1 A1 = nI (mvN S0 A0 S1 A1 100) := by
  unfold mvF
  rw [if_neg (show ¬ p01 (lN A0) = 0 from fun q => by have := (pk_lLE (b := 0) b0 (by omega)).mp (p01_0.mp q); omega), if_pos (show ¬ lN A1 = 0 from fun q => by have := (pk_lEQ (b := 0) b1 (by omega)).mp q; omega), mvD_n h0 h1 b0 b1 100 h]
theorem p01_n {A : Nat} (b : A < 2 ^ 63) : p01 (lN A) = if A = 0 then 0 else 1 := by
  unfold p01
  by_cases e : A = 0
  · rw [if_pos e, e]; rfl
  · rw [if_neg e, if_neg (fun q => e (by have := (pk_lLE (b := 0) b (by omega)).mp q; omega))]
theorem mvF_0 {S0 S1 : Nat → Nat} {A0 A1 : Nat} (b0 : A0 < 2 ^ 63) (b1 : A1 < 2 ^ 63) (h : A0 = 0 ∨ A1 = 0) : mvF S0 A0 S1 A1 = if ¬ lN A0 = lN A1 then 1000 else 0 := by
  have e1 : (p01 (lN A0) = p01 (lN A1)) ↔ lN A0 = lN A1 := by
    rw [p01_n b0, p01_n b1, pk_lEQ b0 b1]
    rcases h with rfl | rfl
    · by_cases z : A1 = 0
      · rw [z]; exact ⟨fun _ => rfl, fun _ => rfl⟩
      · rw [if_pos rfl, if_neg z]; exact ⟨fun q => absurd q (by decide), fun q => absurd q.symm z⟩
    · by_cases z : A0 = 0
      · rw [z]; exact ⟨fun _ => rfl, fun _ => rfl⟩
      · rw [if_pos (show (0 : Nat) = 0 from rfl), if_neg z]; exact ⟨fun q => absurd q (by decide), fun q => absurd q z⟩
  have e2 : (if ¬ p01 (lN A0) = p01 (lN A1) then (1000 : Int32) else 0) = if ¬ lN A0 = lN A1 then 1000 else 0 := by
    by_cases z : lN A0 = lN A1
    · rw [if_neg (not_not_intro z), if_neg (not_not_intro (e1.mpr z))]
    · rw [if_pos z, if_pos (fun q => z (e1.mp q))]
  unfold mvF
  rw [e2]
  rcases h with rfl | rfl
  · rw [if_pos (show p01 (lN 0) = 0 from rfl)]
  · by_cases z : p01 (lN A0) = 0
    · rw [if_pos z]
    · rw [if_neg z, if_neg (not_not_intro (show lN 0 = 0 from rfl))]
theorem foS_le {SN : Nat → Nat} {j : Nat} : ∀ k, j < k → SN j ≤ foS SN k
  | 0, h => by omega
  | k + 1, h => by
    show SN j ≤ foS SN k + SN k
    by_cases e : j = k
    · subst e; omega
    · have := foS_le (SN := SN) k (show j < k by omega); omega
