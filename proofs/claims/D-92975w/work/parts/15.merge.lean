/-! overlays merged; the reference's cells -/
set_option maxRecDepth 100000
def asets (l : List (Nat × AC)) : List (Nat × AC) → List (Nat × AC)
  | [] => l
  | (a, c) :: r => aset (asets l r) a c
theorem hov_cons (h : AH) (a : Nat) (c : AC) (l : List (Nat × AC)) : hov h ((a, c) :: l) = va_up (hov h l) a (some c) := by
  funext k
  show cond (Nat.beq k a) (some c) (hov h l k) = if k = a then some c else hov h l k
  by_cases hk : k = a
  · subst hk; simp
  · rw [beq_ff hk, if_neg hk]; rfl
theorem hov_mrg0 (h : AH) (l : List (Nat × AC)) : ∀ (l2 : List (Nat × AC)), hov (hov h l) l2 = hov h (asets l l2)
  | [] => rfl
  | (a, c) :: r => by
    rw [hov_cons, hov_mrg0 h l r, hov_up (l := asets l r) rfl]
    rfl
theorem hov_mrg {h : AH} {l l2 l' : List (Nat × AC)} (e : asets l l2 = l') : hov (hov h l) l2 = hov h l' := by
  subst e
  exact hov_mrg0 h l l2
/-- a cell that an overlay doesn't name -/
theorem hov_out {h : AH} {k : Nat} : ∀ {l : List (Nat × AC)}, (∀ q ∈ l, k ≠ q.1) → hov h l k = h k
  | [], _ => rfl
  | (a, c) :: l, hl => by
    show cond (Nat.beq k a) (some c) (hov h l k) = h k
    rw [beq_ff (hl (a, c) List.mem_cons_self)]
    exact hov_out (fun q hq => hl q (List.mem_cons_of_mem _ hq))
/-- an overlay that names cells from lo to hi alone leaves the others -/
theorem hov_fr {h : AH} {l : List (Nat × AC)} (lo hi : Nat) (hl : l.all (fun q => Nat.ble lo q.1 && Nat.blt q.1 hi) = true) : ∀ k, k < lo ∨ hi ≤ k → hov h l k = h k := by
  intro k hk
  refine hov_out (fun q hq e => ?_)
  have h1 := List.all_eq_true.mp hl q hq
  simp only [Bool.and_eq_true, Nat.blt] at h1
  have h2 := Nat.le_of_ble_eq_true h1.1
  have h3 := Nat.le_of_ble_eq_true h1.2
  omega
/-- an overlay by what the cell holds already -/
theorem hov_same {h : AH} {a : Nat} {c : AC} (e : h a = some c) : hov h [(a, c)] = h := by
  funext k
  show cond (Nat.beq k a) (some c) (h k) = h k
  by_cases hk : k = a
  · subst hk; rw [e]; simp
  · rw [beq_ff hk]; rfl
def mlen (k : Nat) : Nat := match k with
  | 34 => 8 | 37 => 200 | 38 => 200 | 39 => 100 | 40 => 60 | 43 => 10 | 52 => 20 | 53 => 6 | 54 => 6 | 56 => 100 | 58 => 570 | 59 => 4 | 60 => 4 | 61 => 64 | 62 => 16 | _ => 7
/-- the reference's cells: its object, its long array, its int arrays -/
def MC (s : Nat → Int32) (al : Int64) (F : Nat → Nat → Int32) (FL : Nat → Int64) (h : AH) : Prop := h 33 = some (MO s al) ∧ h 55 = some (JA 100 FL) ∧ ∀ k, 34 ≤ k → k < 63 → k ≠ 55 → h k = some (IA (mlen k) (F k))
def mok (k : Nat) : Bool := Nat.ble 34 k && Nat.blt k 63 && !(Nat.beq k 55)
theorem mok_s {k : Nat} (hk : mok k = true) : 34 ≤ k ∧ k < 63 ∧ k ≠ 55 := by
  unfold mok at hk
  simp only [Bool.and_eq_true, Nat.blt, Bool.not_eq_true'] at hk
  exact ⟨Nat.le_of_ble_eq_true hk.1.1, Nat.le_of_ble_eq_true hk.1.2, Nat.ne_of_beq_eq_false hk.2⟩
theorem mI {s : Nat → Int32} {al : Int64} {F : Nat → Nat → Int32} {FL : Nat → Int64} {h : AH} (mc : MC s al F FL h) (k : Nat) (hk : mok k = true) : h k = some (IA (mlen k) (F k)) := by
  obtain ⟨h1, h2, h3⟩ := mok_s hk
  exact mc.2.2 k h1 h2 h3
theorem MC_33 {s s' : Nat → Int32} {al al' : Int64} {F : Nat → Nat → Int32} {FL : Nat → Int64} {h : AH} {l : List (Nat × AC)} (mc : MC s al F FL (hov h l)) : MC s' al' F FL (hov h ((33, MO s' al') :: l)) := by
  rw [hov_cons]
  refine ⟨va_up_self _ _ _, ?_, fun k h1 h2 h3 => ?_⟩
  · rw [va_up_ne _ _ (by decide)]; exact mc.2.1
  · rw [va_up_ne _ _ (by omega)]; exact mc.2.2 k h1 h2 h3
theorem MC_55 {s : Nat → Int32} {al : Int64} {F : Nat → Nat → Int32} {FL FL' : Nat → Int64} {h : AH} {l : List (Nat × AC)} (mc : MC s al F FL (hov h l)) : MC s al F FL' (hov h ((55, JA 100 FL') :: l)) := by
  rw [hov_cons]
  refine ⟨?_, va_up_self _ _ _, fun k h1 h2 h3 => ?_⟩
  · rw [va_up_ne _ _ (by decide)]; exact mc.1
  · rw [va_up_ne _ _ h3]; exact mc.2.2 k h1 h2 h3
theorem MC_I {s : Nat → Int32} {al : Int64} {F : Nat → Nat → Int32} {FL : Nat → Int64} {h : AH} {l : List (Nat × AC)} {c : Nat} {f : Nat → Int32} (hc : mok c = true) (mc : MC s al F FL (hov h l)) : MC s al (va_up F c f) FL (hov h ((c, IA (mlen c) f) :: l)) := by
  obtain ⟨c1, c2, c3⟩ := mok_s hc
  rw [hov_cons]
  refine ⟨?_, ?_, fun k h1 h2 h3 => ?_⟩
  · rw [va_up_ne _ _ (by omega)]; exact mc.1
  · rw [va_up_ne _ _ (fun q => c3 q.symm)]; exact mc.2.1
  · by_cases hk : k = c
    · subst hk; rw [va_up_self, va_up_self]
    · rw [va_up_ne _ _ hk, va_up_ne _ _ hk]; exact mc.2.2 k h1 h2 h3
