-- Obj fields dict_keys(['cls', 'fun', 'sname', 'refs', 'extra', 'ups'])
/-! the component: the sheets behind film -/
set_option maxRecDepth 100000
theorem flI_ne {g : Nat → Int32} {w : WY} {b x : Nat} : ∀ m, (x < b ∨ b + m ≤ x) → flI g w b m x = g x
  | 0, _ => rfl
  | m + 1, h => by
    show upd (flI g w b m) (b + m) (nI (w.1 m)) x = g x
    rw [pk_un (by omega)]; exact flI_ne m (by omega)
theorem flI_eq {f g : Nat → Int32} {w : WY} {o bb z : Nat} (h : ∀ j, j < z → f j = g (o + j)) : ∀ m, ∀ j, j < z → flI f w bb m j = flI g w (o + bb) m (o + j)
  | 0, j, hj => h j hj
  | m + 1, j, hj => by
    show upd (flI f w bb m) (bb + m) (nI (w.1 m)) j = upd (flI g w (o + bb) m) (o + bb + m) (nI (w.1 m)) (o + j)
    by_cases e : j = bb + m
    · subst e
      rw [pk_us, show o + (bb + m) = o + bb + m by omega, pk_us]
    · rw [pk_un e, pk_un (show ¬ o + j = o + bb + m by omega)]; exact flI_eq h m j hj
/-- rows of sheets lie apart -/
def rrD (F : Nat → Nat → Int32) (rr : Nat → Nat) : Prop := ∀ t t2, t < 4 → t2 < 4 → 0 ≤ F 59 t → 0 ≤ F 59 t2 → rr t = rr t2 → t = t2
theorem SHt.film {F : Nat → Nat → Int32} {h h' : AH} {n n' t t2 H bb ln z : Nat} {rr : Nat → Nat} {w : WY} {f : Nat → Int32} (d : rrD F rr) (ht : t < 4) (ht2 : t2 < 4) (hn : n ≤ n') (hl : ln < 3) (hz : z ≤ 16) (e59 : F 59 t = nI ln) (e60 : F 60 t = nI z) (hr : 63 ≤ rr t) (hrn : rr t < n) (hbz : bb + (H + 1) ≤ z) (hf : ∀ j, j < z → f j = F 61 (16 * t + j)) (k1 : h' (rr t) = some (rwA ln z (flI f w bb (H + 1)))) (k2 : ∀ k, k < n → 29 ≤ k → ¬ k = rr t → h' k = h k) (h63 : 63 ≤ n) (s0 : h (29 + t) = some (OB 3 [.ref (rr t)])) (s : SHt F h n t2 (rr t2)) : SHt (va_up F 61 (flI (F 61) w (16 * t + bb) (H + 1))) h' n' t2 (rr t2) := by
  by_cases e : t2 = t
  · subst e
    exact Or.inr ⟨ln, z, _, hl, hz, e59, e60, hr, by omega, (k2 (29 + t2) (by omega) (by omega) (by omega)).trans s0, k1, fun j hj => flI_eq hf (H + 1) j hj⟩
  · rcases s with ⟨q1, q2⟩ | ⟨ln2, z2, f2, q1, q2, q3, q4, q5, q6, q7, q8, q9⟩
    · exact Or.inl ⟨q1, (k2 (29 + t2) (by omega) (by omega) (by omega)).trans q2⟩
    · refine Or.inr ⟨ln2, z2, f2, q1, q2, q3, q4, q5, by omega, (k2 (29 + t2) (by omega) (by omega) (by omega)).trans q7, (k2 (rr t2) q6 (by omega) (fun z => e (d t2 t ht2 ht (by rw [q3]; exact nI_nn (by omega)) (by rw [e59]; exact nI_nn (by omega)) z))).trans q8, fun j hj => ?_⟩
      rw [q9 j hj]
      show F 61 (16 * t2 + j) = flI (F 61) w (16 * t + bb) (H + 1) (16 * t2 + j)
      rw [flI_ne (H + 1) (by omega)]
