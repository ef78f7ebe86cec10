/-! PURE: the reference's sums are the component's (2) -/
set_option maxRecDepth 100000
theorem foS_get {f : Nat → Nat} {j : Nat} : ∀ N, j < N → f j ≤ foS f N
  | 0, h => by omega
  | N + 1, h => by
    show f j ≤ foS f N + f N
    by_cases e : j = N
    · rw [e]; omega
    · have := foS_get (f := f) N (by omega : j < N); omega
theorem mulP_eq {F : Nat → Nat → Int32} {noP : Int32} {lp : Nat → Bool} {c x0 np : Nat} (hx : x0 < 2 ^ 30) (hp4 : np ≤ 4) (hN : ∀ p, p < np → (((noP >>> (nI p &&& 31)) &&& 1) = 1 ↔ lp p = true)) : ∀ k, k ≤ np → mulP (F 52) (F 37) (F 38) (F 34 7) noP c (lN x0) k = lN (x0 * pN F lp c k)
  | 0, _ => by rw [pN, Nat.mul_one]; rfl
  | k + 1, hk => by
    have hb : x0 * pN F lp c k < 2 ^ 63 := by
      have e1 : pN F lp c k ≤ 4 ^ 4 := Nat.le_trans (pN_le k) (Nat.pow_le_pow_right (by omega) (by omega))
      have e2 : x0 * pN F lp c k ≤ 2 ^ 30 * 4 ^ 4 := Nat.mul_le_mul (Nat.le_of_lt hx) e1
      exact Nat.lt_of_le_of_lt e2 (by decide)
    rw [mulP, mulP_eq hx hp4 hN k (by omega), pN]
    by_cases z : x0 * pN F lp c k = 0
    · rw [z, if_pos (show lN 0 = 0 from rfl), ← Nat.mul_assoc, z, Nat.zero_mul]; rfl
    · have z2 : ¬ lN (x0 * pN F lp c k) = 0 := fun e => z ((pk_lEQ hb (by decide)).mp (show lN (x0 * pN F lp c k) = lN 0 from e))
      rw [if_neg z2]
      by_cases q : lp k = true
      · rw [if_neg (not_not_intro ((hN k (by omega)).mpr q)), if_pos q, Int64.mul_one, Nat.mul_one]
      · rw [if_pos (fun e => q ((hN k (by omega)).mp e)), if_neg q, (ftN_s F k c).1, nI_l (by have := (ftN_s F k c).2; omega), lN_mul, Nat.mul_assoc]
theorem mulD_eq {F : Nat → Nat → Int32} {c y np nd : Nat} (ok : OKP F np nd) : ∀ k, k ≤ nd → mulD (F 53) (F 54) c (lN y) k = lN (y * dN F false c k)
  | 0, _ => by rw [dN, Nat.mul_one]; rfl
  | k + 1, hk => by
    obtain ⟨d, d1, d2, d3⟩ := ok.2.1 k (by omega)
    rw [mulD, mulD_eq ok k (by omega), dN, if_neg (show ¬ (false = true) by decide)]
    unfold dfN
    by_cases e : F 53 k = nI c
    · rw [if_neg (not_not_intro e), if_pos e, d3, nI_clamp (by omega), show (8 : Int32) - nI d = nI (8 - d) from by rw [show (8 : Int32) = nI ((8 - d) + d) from by rw [show 8 - d + d = 8 by omega]; rfl]; exact nI_sub2 _ _, nI_l (by omega), lN_mul, Nat.mul_assoc]
    · rw [if_pos e, if_neg e, show (8 : Int64) = lN 8 from rfl, lN_mul, Nat.mul_assoc]
theorem dN_t {F : Nat → Nat → Int32} {c : Nat} : ∀ k, dN F true c k = 1
  | 0 => rfl
  | k + 1 => by rw [dN, dN_t k, if_pos rfl]
theorem pN_t {F : Nat → Nat → Int32} {lp : Nat → Bool} {c : Nat} : ∀ k, (∀ p, p < k → lp p = true) → pN F lp c k = 1
  | 0, _ => rfl
  | k + 1, h => by rw [pN, pN_t k (fun p hp => h p (by omega)), if_pos (h k (by omega))]
theorem cell_eq {F : Nat → Nat → Int32} {noP noD : Int32} {lp : Nat → Bool} {ld : Bool} {EN : Nat → Nat} {c np nd : Nat} (ok : OKP F np nd) (hx : EN c < 2 ^ 30) (hp4 : np ≤ 4) (hN : ∀ p, p < np → (((noP >>> (nI p &&& 31)) &&& 1) = 1 ↔ lp p = true)) (hD : noD = 0 ↔ ld = false) :
    cellV (F 52) (F 37) (F 38) (F 53) (F 54) (F 34 7) noP noD np nd c (lN (EN c)) = lN (sN F lp ld EN np nd c) := by
  unfold cellV sN
  rw [mulP_eq hx hp4 hN np (Nat.le_refl _)]
  by_cases q : noD = 0
  · rw [if_pos q, hD.mp q]
    exact mulD_eq ok nd (Nat.le_refl _)
  · have : ld = true := by
      cases ld with
      | true => rfl
      | false => exact absurd (hD.mpr rfl) q
    rw [if_neg q, this, dN_t, Nat.mul_one]
    rfl
section SK
variable {P CU WA DC DB : Nat → Int32} {wd noP noD : Int32} {np nd : Nat} {f : Nat → Int64}
theorem sums_hi : ∀ k j, k ≤ j → sumsK P CU WA DC DB wd noP noD np nd f k j = f j
  | 0, j, _ => rfl
  | k + 1, j, h => by
    rw [sumsK]
    unfold vp_updL
    rw [if_neg (by omega)]
    exact sums_hi k j (by omega)
theorem sums_lo : ∀ k j, j < k → sumsK P CU WA DC DB wd noP noD np nd f k j = cellV P CU WA DC DB wd noP noD np nd j (f j)
  | 0, j, h => by omega
  | k + 1, j, h => by
    rw [sumsK]
    unfold vp_updL
    by_cases e : j = k
    · rw [if_pos e, e, sums_hi k k (Nat.le_refl _)]
    · rw [if_neg e]
      exact sums_lo k j (by omega)
theorem all_su {SN : Nat → Nat} : ∀ k, (∀ j, j < k → cellV P CU WA DC DB wd noP noD np nd j (f j) = lN (SN j)) → allK P CU WA DC DB wd noP noD np nd f k = lN (foS SN k)
  | 0, _ => rfl
  | k + 1, h => by
    rw [allK, all_su k (fun j hj => h j (by omega)), sums_hi k k (Nat.le_refl _), h k (by omega), lN_add]
    rfl
end SK
theorem SumN_of {F : Nat → Nat → Int32} {noP noD : Int32} {lp : Nat → Bool} {ld : Bool} {EN : Nat → Nat} {H g np nd : Nat} {ws : List WY} (ok : OKP F np nd) (hp4 : np ≤ 4) (hd4 : nd ≤ 4) (hN : ∀ p, p < np → (((noP >>> (nI p &&& 31)) &&& 1) = 1 ↔ lp p = true)) (hD : noD = 0 ↔ ld = false)
    (hE : ∀ j, j < 100 → waysS H g ws (fun _ => 0) j = lN (EN j)) (hs : foS EN 100 < 2 ^ 30) : SumN F noP noD H g np nd ws (sN F lp ld EN np nd) (foS (sN F lp ld EN np nd) 100) := by
  have hx : ∀ j, j < 100 → EN j < 2 ^ 30 := fun j hj => Nat.lt_of_le_of_lt (foS_get 100 hj) hs
  have hc : ∀ j, j < 100 → cellV (F 52) (F 37) (F 38) (F 53) (F 54) (F 34 7) noP noD np nd j (waysS H g ws (fun _ => 0) j) = lN (sN F lp ld EN np nd j) := fun j hj => by
    rw [hE j hj]
    exact cell_eq ok (hx j hj) hp4 hN hD
  refine ⟨fun j hj => ⟨?_, sN_lt hp4 hd4 (hx j hj)⟩, all_su 100 hc, sN_su hp4 hd4 hs⟩
  unfold suF
  rw [sums_lo 100 j hj]
  exact hc j hj
theorem bit_0 : ∀ p, p < 4 → ¬ (((0 : Int32) >>> (nI p &&& 31)) &&& 1) = 1 := by decide
theorem bit_15 : ∀ p, p < 4 → (((15 : Int32) >>> (nI p &&& 31)) &&& 1) = 1 := by decide
theorem bit_p : ∀ p, p < 4 → ∀ q, q < 4 → ((((1 : Int32) <<< ((8 + nI q - 8) &&& 31) >>> (nI p &&& 31)) &&& 1) = 1 ↔ p = q) := by decide
theorem fP_bit {c : Int32} {p : Nat} (hp : p < 4) : (((fP c >>> (nI p &&& 31)) &&& 1) = 1 ↔ decide (c = 8 + nI p) = true) := by
  rw [decide_eq_true_eq]
  unfold fP
  have h8 : ∀ q, q < 4 → ¬ (8 + nI q ≤ 7) ∧ ¬ ((12 : Int32) ≤ 8 + nI q) := by decide
  have hj : ∀ p, p < 4 → ∀ q, q < 4 → ((8 : Int32) + nI q = 8 + nI p ↔ p = q) := by decide
  by_cases c1 : c ≤ 7
  · rw [if_pos c1]
    exact ⟨fun h => absurd h (bit_0 p hp), fun h => absurd c1 (by rw [h]; exact (h8 p hp).1)⟩
  · rw [if_neg c1]
    by_cases c2 : 12 ≤ c
    · rw [if_pos c2]
      exact ⟨fun h => absurd h (bit_0 p hp), fun h => absurd c2 (by rw [h]; exact (h8 p hp).2)⟩
    · rw [if_neg c2]
      have hq : ∃ q, q < 4 ∧ c = 8 + nI q := by
        have i1 : ¬ c.toInt ≤ 7 := fun h => c1 (Int32.le_iff_toInt_le.mpr h)
        have i2 : ¬ 12 ≤ c.toInt := fun h => c2 (Int32.le_iff_toInt_le.mpr h)
        have i3 : c = Int32.ofInt c.toInt := (Int32.ofInt_toInt c).symm
        rcases (show c.toInt = 8 ∨ c.toInt = 9 ∨ c.toInt = 10 ∨ c.toInt = 11 by omega) with e | e | e | e
        · exact ⟨0, by omega, by rw [i3, e]; decide⟩
        · exact ⟨1, by omega, by rw [i3, e]; decide⟩
        · exact ⟨2, by omega, by rw [i3, e]; decide⟩
        · exact ⟨3, by omega, by rw [i3, e]; decide⟩
      obtain ⟨q, hq4, rfl⟩ := hq
      rw [bit_p p hp q hq4, hj p hp q hq4]
theorem fD_bit {c : Int32} : fD c = 0 ↔ decide (c = 12) = false := by
  unfold fD
  cases decide (c = 12) <;> decide
