-- Obj fields dict_keys(['cls', 'fun', 'sname', 'refs', 'extra', 'ups'])
/-! the component: tell, for each hearer -/
set_option maxRecDepth 100000
theorem wt_eq : ∀ t, t < 3 → ∀ sl, sl < 2 → ∀ rg, rg ≤ 64 → nI (32 * rg) >>> (((2 * nI t) + (if nI sl = 0 then 0 else 1)) &&& 31) = heavyI t (nI sl) (nI rg) := by decide +kernel
theorem naHw : (parseMethodDescriptor "(LSevenRings;I)Z").map (fun d => d.parameters.length) = some 2 := by decide +kernel
theorem AM.fr {l : Launch} {G : GW} {y : MethodName} {cc : ByteArray} {nL : Nat} {ret : Option FieldType} {fr mc ms : Nat} {as : List Value} {h h' : AH} {n : Nat} {Q : Option Value → AH → Nat → Prop} (e : h = h') (hM : AM l G y cc nL ret fr mc ms as h' n Q) : AM l G y cc nL ret fr mc ms as h n Q := e ▸ hM
set_option maxHeartbeats 600000 in
theorem ax_tellC {l : Launch} {G : GW} {h : AH} {n : Nat} {h' : AH} {s : Nat → Int32} (x1 : h 1 = some (XO s)) {to : Nat} {fs : List Value} (xt : h to = some (OB 5 fs)) {t sl rg : Nat} (ht : t < 3) (hsl : sl < 2) (hrg : rg ≤ 64) (h11 : s 11 = nI t) (h12 : s 12 = nI sl) {b : Bool} (hM : AM l G yX6_way cX6_way 3 (some .boolean) 0 0 0 [.ref to, .ref 1, .int (heavyI t (nI sl) (nI rg))] h n (Qi (b2i b) h' n)) : AM l G yX0_tell cX0_tell 3 (some .boolean) 9 0 0 [.ref 1, .ref to, .int (nI (32 * rg))] h n (Qi (b2i b) h' n) := by
  refine AM.of (L := [some (.ref 1), some (.ref to), some (.int (nI (32 * rg)))]) (by decide) (Nat.le_of_ble_eq_true rfl) rfl ?_
  refine ew_aload_n (t := 1) dX0_tell_0 rfl rfl rfl ?_
  refine ew_aload_n (t := 2) dX0_tell_1 rfl rfl rfl ?_
  refine ew_iload_n (t := 3) dX0_tell_2 rfl rfl rfl ?_
  refine ew_ic2 (t := 4) dX0_tell_3 rfl ?_
  refine ew_aload_n (t := 5) dX0_tell_4 rfl rfl rfl ?_
  refine ew_get (t := 8) (j := 11) (v := .int (s 11)) fcX0 x1 (Nat.le_of_ble_eq_true rfl) q272 rfl dX0_tell_5 rfl ?_
  rw [h11]
  refine ew_imul (t := 9) dX0_tell_8 rfl ?_
  refine ew_aload_n (t := 10) dX0_tell_9 rfl rfl rfl ?_
  refine ew_get (t := 13) (j := 12) (v := .int (s 12)) fcX0 x1 (Nat.le_of_ble_eq_true rfl) q274 rfl dX0_tell_10 rfl ?_
  rw [h12]
  have J21 : ∀ (j21_0 : Int32), j21_0 = ((if (nI sl) = 0 then 0 else 1) : Int32) → EW l G yX0_tell cX0_tell 3 (some .boolean) 9 0 0 (Qi (b2i b) h' n) 0 0 h n 21 [some (.ref 1), some (.ref to), some (.int (nI (32 * rg)))] [.int j21_0, .int (2 * (nI t)), .int (nI (32 * rg)), .ref 1, .ref to] := by
    intro j21_0 hj21_0
    refine ew_iadd (t := 22) dX0_tell_21 rfl ?_
    refine ew_ishr (t := 23) dX0_tell_22 rfl ?_
    rw [hj21_0, wt_eq t ht sl hsl rg hrg]
    refine ew_callU (t := 26) (As := [_, _]) hM (fcX6).1 xt (lw_U q454 q456 q457 q458 q64 q459) q455 ⟨by decide, by decide, naHw⟩ dX0_tell_23 rfl (Nat.le_of_ble_eq_true rfl) (Nat.le_of_ble_eq_true rfl) (Nat.le_refl _) (Nat.le_refl _) (Nat.le_of_ble_eq_true rfl) rfl (qi ?_)
    exact ew_zret rfl (b2i_nar _) dX0_tell_26 (Nat.le_refl _) (Nat.le_refl _) ⟨rfl, rfl, rfl⟩
  refine ew_if_eq (t := 20) (t2 := 16) dX0_tell_13 rfl rfl (fun c_13 => ?_) (fun c_13 => ?_)
  · refine ew_ic0 (t := 21) dX0_tell_20 rfl ?_
    exact J21 0 (by simp only [if_pos c_13])
  · refine ew_ic1 (t := 17) dX0_tell_16 rfl ?_
    refine ew_goto (t := 21) dX0_tell_17 rfl ?_
    exact J21 1 (by simp only [if_neg c_13])
set_option maxHeartbeats 600000 in
theorem ax_tellS {l : Launch} {G : GW} {h : AH} {n : Nat} {h' : AH} {s : Nat → Int32} (x1 : h 1 = some (XO s)) {to : Nat} {fs : List Value} (xt : h to = some (OB 6 fs)) {t sl rg : Nat} (ht : t < 3) (hsl : sl < 2) (hrg : rg ≤ 64) (h11 : s 11 = nI t) (h12 : s 12 = nI sl) {b : Bool} (hM : AM l G yX7_way cX7_way 3 (some .boolean) 1 0 0 [.ref to, .ref 1, .int (heavyI t (nI sl) (nI rg))] h n (Qi (b2i b) h' n)) : AM l G yX0_tell cX0_tell 3 (some .boolean) 9 0 0 [.ref 1, .ref to, .int (nI (32 * rg))] h n (Qi (b2i b) h' n) := by
  refine AM.of (L := [some (.ref 1), some (.ref to), some (.int (nI (32 * rg)))]) (by decide) (Nat.le_of_ble_eq_true rfl) rfl ?_
  refine ew_aload_n (t := 1) dX0_tell_0 rfl rfl rfl ?_
  refine ew_aload_n (t := 2) dX0_tell_1 rfl rfl rfl ?_
  refine ew_iload_n (t := 3) dX0_tell_2 rfl rfl rfl ?_
  refine ew_ic2 (t := 4) dX0_tell_3 rfl ?_
  refine ew_aload_n (t := 5) dX0_tell_4 rfl rfl rfl ?_
  refine ew_get (t := 8) (j := 11) (v := .int (s 11)) fcX0 x1 (Nat.le_of_ble_eq_true rfl) q272 rfl dX0_tell_5 rfl ?_
  rw [h11]
  refine ew_imul (t := 9) dX0_tell_8 rfl ?_
  refine ew_aload_n (t := 10) dX0_tell_9 rfl rfl rfl ?_
  refine ew_get (t := 13) (j := 12) (v := .int (s 12)) fcX0 x1 (Nat.le_of_ble_eq_true rfl) q274 rfl dX0_tell_10 rfl ?_
  rw [h12]
  have J21 : ∀ (j21_0 : Int32), j21_0 = ((if (nI sl) = 0 then 0 else 1) : Int32) → EW l G yX0_tell cX0_tell 3 (some .boolean) 9 0 0 (Qi (b2i b) h' n) 0 0 h n 21 [some (.ref 1), some (.ref to), some (.int (nI (32 * rg)))] [.int j21_0, .int (2 * (nI t)), .int (nI (32 * rg)), .ref 1, .ref to] := by
    intro j21_0 hj21_0
    refine ew_iadd (t := 22) dX0_tell_21 rfl ?_
    refine ew_ishr (t := 23) dX0_tell_22 rfl ?_
    rw [hj21_0, wt_eq t ht sl hsl rg hrg]
    refine ew_callU (t := 26) (As := [_, _]) hM (fcX7).1 xt (lw_U q454 q456 q473 q474 q65 q475) q455 ⟨by decide, by decide, naHw⟩ dX0_tell_23 rfl (Nat.le_of_ble_eq_true rfl) (Nat.le_of_ble_eq_true rfl) (Nat.le_refl _) (Nat.le_refl _) (Nat.le_of_ble_eq_true rfl) rfl (qi ?_)
    exact ew_zret rfl (b2i_nar _) dX0_tell_26 (Nat.le_refl _) (Nat.le_refl _) ⟨rfl, rfl, rfl⟩
  refine ew_if_eq (t := 20) (t2 := 16) dX0_tell_13 rfl rfl (fun c_13 => ?_) (fun c_13 => ?_)
  · refine ew_ic0 (t := 21) dX0_tell_20 rfl ?_
    exact J21 0 (by simp only [if_pos c_13])
  · refine ew_ic1 (t := 17) dX0_tell_16 rfl ?_
    refine ew_goto (t := 21) dX0_tell_17 rfl ?_
    exact J21 1 (by simp only [if_neg c_13])
set_option maxHeartbeats 600000 in
theorem ax_tellM {l : Launch} {G : GW} {h : AH} {n : Nat} {h' : AH} {s : Nat → Int32} (x1 : h 1 = some (XO s)) {to : Nat} {fs : List Value} (xt : h to = some (OB 7 fs)) {t sl rg : Nat} (ht : t < 3) (hsl : sl < 2) (hrg : rg ≤ 64) (h11 : s 11 = nI t) (h12 : s 12 = nI sl) {b : Bool} (hM : AM l G yX8_way cX8_way 3 (some .boolean) 0 0 0 [.ref to, .ref 1, .int (heavyI t (nI sl) (nI rg))] h n (Qi (b2i b) h' n)) : AM l G yX0_tell cX0_tell 3 (some .boolean) 9 0 0 [.ref 1, .ref to, .int (nI (32 * rg))] h n (Qi (b2i b) h' n) := by
  refine AM.of (L := [some (.ref 1), some (.ref to), some (.int (nI (32 * rg)))]) (by decide) (Nat.le_of_ble_eq_true rfl) rfl ?_
  refine ew_aload_n (t := 1) dX0_tell_0 rfl rfl rfl ?_
  refine ew_aload_n (t := 2) dX0_tell_1 rfl rfl rfl ?_
  refine ew_iload_n (t := 3) dX0_tell_2 rfl rfl rfl ?_
  refine ew_ic2 (t := 4) dX0_tell_3 rfl ?_
  refine ew_aload_n (t := 5) dX0_tell_4 rfl rfl rfl ?_
  refine ew_get (t := 8) (j := 11) (v := .int (s 11)) fcX0 x1 (Nat.le_of_ble_eq_true rfl) q272 rfl dX0_tell_5 rfl ?_
  rw [h11]
  refine ew_imul (t := 9) dX0_tell_8 rfl ?_
  refine ew_aload_n (t := 10) dX0_tell_9 rfl rfl rfl ?_
  refine ew_get (t := 13) (j := 12) (v := .int (s 12)) fcX0 x1 (Nat.le_of_ble_eq_true rfl) q274 rfl dX0_tell_10 rfl ?_
  rw [h12]
  have J21 : ∀ (j21_0 : Int32), j21_0 = ((if (nI sl) = 0 then 0 else 1) : Int32) → EW l G yX0_tell cX0_tell 3 (some .boolean) 9 0 0 (Qi (b2i b) h' n) 0 0 h n 21 [some (.ref 1), some (.ref to), some (.int (nI (32 * rg)))] [.int j21_0, .int (2 * (nI t)), .int (nI (32 * rg)), .ref 1, .ref to] := by
    intro j21_0 hj21_0
    refine ew_iadd (t := 22) dX0_tell_21 rfl ?_
    refine ew_ishr (t := 23) dX0_tell_22 rfl ?_
    rw [hj21_0, wt_eq t ht sl hsl rg hrg]
    refine ew_callU (t := 26) (As := [_, _]) hM (fcX8).1 xt (lw_U q454 q456 q470 q471 q66 q472) q455 ⟨by decide, by decide, naHw⟩ dX0_tell_23 rfl (Nat.le_of_ble_eq_true rfl) (Nat.le_of_ble_eq_true rfl) (Nat.le_refl _) (Nat.le_refl _) (Nat.le_of_ble_eq_true rfl) rfl (qi ?_)
    exact ew_zret rfl (b2i_nar _) dX0_tell_26 (Nat.le_refl _) (Nat.le_refl _) ⟨rfl, rfl, rfl⟩
  refine ew_if_eq (t := 20) (t2 := 16) dX0_tell_13 rfl rfl (fun c_13 => ?_) (fun c_13 => ?_)
  · refine ew_ic0 (t := 21) dX0_tell_20 rfl ?_
    exact J21 0 (by simp only [if_pos c_13])
  · refine ew_ic1 (t := 17) dX0_tell_16 rfl ?_
    refine ew_goto (t := 21) dX0_tell_17 rfl ?_
    exact J21 1 (by simp only [if_neg c_13])
set_option maxHeartbeats 600000 in
theorem ax_tellK {l : Launch} {G : GW} {h : AH} {n : Nat} {h' : AH} {s : Nat → Int32} (x1 : h 1 = some (XO s)) {to : Nat} {fs : List Value} (xt : h to = some (OB 11 fs)) {t sl rg : Nat} (ht : t < 3) (hsl : sl < 2) (hrg : rg ≤ 64) (h11 : s 11 = nI t) (h12 : s 12 = nI sl) {b : Bool} (hM : AM l G yX12_way cX12_way 5 (some .boolean) 1 0 0 [.ref to, .ref 1, .int (heavyI t (nI sl) (nI rg))] h n (Qi (b2i b) h' n)) : AM l G yX0_tell cX0_tell 3 (some .boolean) 9 0 0 [.ref 1, .ref to, .int (nI (32 * rg))] h n (Qi (b2i b) h' n) := by
  refine AM.of (L := [some (.ref 1), some (.ref to), some (.int (nI (32 * rg)))]) (by decide) (Nat.le_of_ble_eq_true rfl) rfl ?_
  refine ew_aload_n (t := 1) dX0_tell_0 rfl rfl rfl ?_
  refine ew_aload_n (t := 2) dX0_tell_1 rfl rfl rfl ?_
  refine ew_iload_n (t := 3) dX0_tell_2 rfl rfl rfl ?_
  refine ew_ic2 (t := 4) dX0_tell_3 rfl ?_
  refine ew_aload_n (t := 5) dX0_tell_4 rfl rfl rfl ?_
  refine ew_get (t := 8) (j := 11) (v := .int (s 11)) fcX0 x1 (Nat.le_of_ble_eq_true rfl) q272 rfl dX0_tell_5 rfl ?_
  rw [h11]
  refine ew_imul (t := 9) dX0_tell_8 rfl ?_
  refine ew_aload_n (t := 10) dX0_tell_9 rfl rfl rfl ?_
  refine ew_get (t := 13) (j := 12) (v := .int (s 12)) fcX0 x1 (Nat.le_of_ble_eq_true rfl) q274 rfl dX0_tell_10 rfl ?_
  rw [h12]
  have J21 : ∀ (j21_0 : Int32), j21_0 = ((if (nI sl) = 0 then 0 else 1) : Int32) → EW l G yX0_tell cX0_tell 3 (some .boolean) 9 0 0 (Qi (b2i b) h' n) 0 0 h n 21 [some (.ref 1), some (.ref to), some (.int (nI (32 * rg)))] [.int j21_0, .int (2 * (nI t)), .int (nI (32 * rg)), .ref 1, .ref to] := by
    intro j21_0 hj21_0
    refine ew_iadd (t := 22) dX0_tell_21 rfl ?_
    refine ew_ishr (t := 23) dX0_tell_22 rfl ?_
    rw [hj21_0, wt_eq t ht sl hsl rg hrg]
    refine ew_callU (t := 26) (As := [_, _]) hM (fcX12).1 xt (lw_U q454 q456 q466 q467 q74 q468) q455 ⟨by decide, by decide, naHw⟩ dX0_tell_23 rfl (Nat.le_of_ble_eq_true rfl) (Nat.le_of_ble_eq_true rfl) (Nat.le_refl _) (Nat.le_refl _) (Nat.le_of_ble_eq_true rfl) rfl (qi ?_)
    exact ew_zret rfl (b2i_nar _) dX0_tell_26 (Nat.le_refl _) (Nat.le_refl _) ⟨rfl, rfl, rfl⟩
  refine ew_if_eq (t := 20) (t2 := 16) dX0_tell_13 rfl rfl (fun c_13 => ?_) (fun c_13 => ?_)
  · refine ew_ic0 (t := 21) dX0_tell_20 rfl ?_
    exact J21 0 (by simp only [if_pos c_13])
  · refine ew_ic1 (t := 17) dX0_tell_16 rfl ?_
    refine ew_goto (t := 21) dX0_tell_17 rfl ?_
    exact J21 1 (by simp only [if_neg c_13])
set_option maxHeartbeats 600000 in
theorem ax_tellE {l : Launch} {G : GW} {h : AH} {n : Nat} {h' : AH} {s : Nat → Int32} (x1 : h 1 = some (XO s)) {to : Nat} {fs : List Value} (xt : h to = some (OB 10 fs)) {t sl rg : Nat} (ht : t < 3) (hsl : sl < 2) (hrg : rg ≤ 64) (h11 : s 11 = nI t) (h12 : s 12 = nI sl) {b : Bool} (hM : AM l G yX11_way cX11_way 6 (some .boolean) 2 0 0 [.ref to, .ref 1, .int (heavyI t (nI sl) (nI rg))] h n (Qi (b2i b) h' n)) : AM l G yX0_tell cX0_tell 3 (some .boolean) 9 0 0 [.ref 1, .ref to, .int (nI (32 * rg))] h n (Qi (b2i b) h' n) := by
  refine AM.of (L := [some (.ref 1), some (.ref to), some (.int (nI (32 * rg)))]) (by decide) (Nat.le_of_ble_eq_true rfl) rfl ?_
  refine ew_aload_n (t := 1) dX0_tell_0 rfl rfl rfl ?_
  refine ew_aload_n (t := 2) dX0_tell_1 rfl rfl rfl ?_
  refine ew_iload_n (t := 3) dX0_tell_2 rfl rfl rfl ?_
  refine ew_ic2 (t := 4) dX0_tell_3 rfl ?_
  refine ew_aload_n (t := 5) dX0_tell_4 rfl rfl rfl ?_
  refine ew_get (t := 8) (j := 11) (v := .int (s 11)) fcX0 x1 (Nat.le_of_ble_eq_true rfl) q272 rfl dX0_tell_5 rfl ?_
  rw [h11]
  refine ew_imul (t := 9) dX0_tell_8 rfl ?_
  refine ew_aload_n (t := 10) dX0_tell_9 rfl rfl rfl ?_
  refine ew_get (t := 13) (j := 12) (v := .int (s 12)) fcX0 x1 (Nat.le_of_ble_eq_true rfl) q274 rfl dX0_tell_10 rfl ?_
  rw [h12]
  have J21 : ∀ (j21_0 : Int32), j21_0 = ((if (nI sl) = 0 then 0 else 1) : Int32) → EW l G yX0_tell cX0_tell 3 (some .boolean) 9 0 0 (Qi (b2i b) h' n) 0 0 h n 21 [some (.ref 1), some (.ref to), some (.int (nI (32 * rg)))] [.int j21_0, .int (2 * (nI t)), .int (nI (32 * rg)), .ref 1, .ref to] := by
    intro j21_0 hj21_0
    refine ew_iadd (t := 22) dX0_tell_21 rfl ?_
    refine ew_ishr (t := 23) dX0_tell_22 rfl ?_
    rw [hj21_0, wt_eq t ht sl hsl rg hrg]
    refine ew_callU (t := 26) (As := [_, _]) hM (fcX11).1 xt (lw_U q454 q456 q460 q461 q73 q462) q455 ⟨by decide, by decide, naHw⟩ dX0_tell_23 rfl (Nat.le_of_ble_eq_true rfl) (Nat.le_of_ble_eq_true rfl) (Nat.le_refl _) (Nat.le_refl _) (Nat.le_of_ble_eq_true rfl) rfl (qi ?_)
    exact ew_zret rfl (b2i_nar _) dX0_tell_26 (Nat.le_refl _) (Nat.le_refl _) ⟨rfl, rfl, rfl⟩
  refine ew_if_eq (t := 20) (t2 := 16) dX0_tell_13 rfl rfl (fun c_13 => ?_) (fun c_13 => ?_)
  · refine ew_ic0 (t := 21) dX0_tell_20 rfl ?_
    exact J21 0 (by simp only [if_pos c_13])
  · refine ew_ic1 (t := 17) dX0_tell_16 rfl ?_
    refine ew_goto (t := 21) dX0_tell_17 rfl ?_
    exact J21 1 (by simp only [if_neg c_13])
/-- cells of the hearer set, below the component's own -/
theorem XH_up {hb hb' : AH} {s ce : Nat → Int32} {a : Nat} {c : AC} (ha : 63 ≤ a) (e : va_up hb a (some c) = hb') : hov (XH hb s ce) [(a, c)] = XH hb' s ce := by
  subst e
  unfold XH
  funext k
  by_cases hk : k = a
  · subst hk
    rw [hv_hit, hv_miss (by omega), hv_miss (by omega)]
    exact (va_up_self _ _ _).symm
  · rw [hv_miss hk]
    show hov hb [(1, XO s), (16, IA 7 ce)] k = _
    by_cases h1 : k = 1
    · subst h1; rfl
    · rw [hv_miss h1, hv_miss h1]
      by_cases h16 : k = 16
      · subst h16; rfl
      · rw [hv_miss h16, hv_miss h16]
        exact (va_up_ne _ _ hk).symm
theorem XH_hi {hb : AH} {s ce : Nat → Int32} {k : Nat} (hk : 17 ≤ k) : XH hb s ce k = hb k := by unfold XH; rw [hv_miss (by omega), hv_miss (by omega)]; rfl
theorem XH_lo {hb : AH} {s ce : Nat → Int32} {k : Nat} (h1 : ¬ k = 1) (h2 : ¬ k = 16) : XH hb s ce k = hb k := by unfold XH; rw [hv_miss h1, hv_miss h2]; rfl
section TELL
variable {l : Launch} {G : GW} {h : AH} {to n H : Nat}
/-- Counter -/
def ctK (h : AH) (to : Nat) (x : Int32 × Int64) (hb : AH) : Prop := hb = hov h [(to, OB 5 [.int x.1, .long x.2])]
def ctT (x : Int32 × Int64) (w : WY) : (Int32 × Int64) × Bool := ((x.1 + 1, x.2 + (ownW w).toInt64), true)
theorem tl_C (hto : 63 ≤ to) : TLc l G (ctK h to) ctT to n H := by
  rintro x hb s ce w rfl hce h9 h9' h11 h11' h12 h12' hrg
  have xt : XH (hov h [(to, OB 5 [.int x.1, .long x.2])]) s ce to = some (OB 5 [.int x.1, .long x.2]) := (XH_hi (by omega)).trans hv_hit
  refine AM.post ?_ (ax_tellC (b := true) rfl xt h11' h12' hrg h11 h12 (ax_wayC hto xt))
  rintro r h' n' ⟨rfl, rfl, rfl⟩
  exact ⟨rfl, rfl, _, rfl, XH_up hto hov_set_hit⟩
/-- Seeker: how many are left, the way that was found -/
def seK (h : AH) (to H : Nat) (x : Int32 × Option WY) (hb : AH) : Prop := ∃ (sw su ss : Int32) (sc : Nat → Int32), hb = hov h [(to, OB 6 [.int x.1, .int sw, .int su, .int ss, .ref (to + 1)]), (to + 1, IA 7 sc)] ∧ ∀ w, x.2 = some w → sw = ownW w ∧ su = nI w.2.2.1 ∧ ss = nI w.2.2.2.1 ∧ w.2.2.2.1 < 2 ∧ ∀ j, j ≤ H → sc j = nI (w.1 j) ∧ w.1 j < 100
def seT (x : Int32 × Option WY) (w : WY) : (Int32 × Option WY) × Bool := ((x.1 - 1, if x.1 = 0 then some w else x.2), !(decide (x.1 - 1 < 0)))
theorem tl_S (hto : 63 ≤ to) (hH : H ≤ 6) : TLc l G (seK h to H) seT to n H := by
  rintro x hb s ce w ⟨sw, su, ss, sc, rfl, hw⟩ hce h9 h9' h11 h11' h12 h12' hrg
  have xt : XH (hov h [(to, OB 6 [.int x.1, .int sw, .int su, .int ss, .ref (to + 1)]), (to + 1, IA 7 sc)]) s ce to = some (OB 6 [.int x.1, .int sw, .int su, .int ss, .ref (to + 1)]) := (XH_hi (by omega)).trans hv_hit
  have xa : XH (hov h [(to, OB 6 [.int x.1, .int sw, .int su, .int ss, .ref (to + 1)]), (to + 1, IA 7 sc)]) s ce (to + 1) = some (IA 7 sc) := (XH_hi (by omega)).trans ((hv_miss (by omega)).trans hv_hit)
  have hs12 : s 12 = 0 ∨ s 12 = 1 := by
    rw [h12]
    have : w.2.2.2.1 = 0 ∨ w.2.2.2.1 = 1 := by omega
    rcases this with e | e <;> rw [e]
    · exact Or.inl rfl
    · exact Or.inr rfl
  have eb : seB x.1 = b2i (seT x w).2 := by
    show (if x.1 - 1 < 0 then (0 : Int32) else 1) = b2i (!(decide (x.1 - 1 < 0)))
    by_cases c : x.1 - 1 < 0
    · rw [if_pos c, decide_eq_true c]; rfl
    · rw [if_neg c, decide_eq_false c]; rfl
  have wc := fun (l : Launch) (G : GW) => ax_wayS (l := l) (G := G) (n := n) (wt := ownW w) hto rfl rfl xt xa hs12
  rw [eb] at wc
  refine AM.post ?_ (ax_tellS rfl xt h11' h12' hrg h11 h12 (wc l G))
  rintro r h' n' ⟨rfl, rfl, rfl⟩
  refine ⟨rfl, rfl, ?_⟩
  by_cases c : x.1 = 0
  · rw [if_neg (not_not_intro c)]
    refine ⟨_, ⟨ownW w, s 11, s 12, va_cpy ce sc 0 0 7, rfl, fun w' hw' => ?_⟩, ?_⟩
    · have e1 : some w = some w' := by
        rw [← hw']
        show some w = if x.1 = 0 then some w else x.2
        rw [if_pos c]
      cases e1
      refine ⟨rfl, h11, h12, h12', fun j hj => ⟨?_, (hce j hj).2⟩⟩
      rw [show va_cpy ce sc 0 0 7 j = ce j from by unfold va_cpy; rw [if_pos (by omega)]; congr 1; omega]
      exact (hce j hj).1
    · rw [show ∀ (X : AH) (o a : AC), hov X [(to, o), (to + 1, a)] = hov (hov X [(to + 1, a)]) [(to, o)] from fun _ _ _ => rfl]
      rw [XH_up (a := to + 1) (by omega) (hov_set_miss (by omega) hov_set_hit), XH_up hto hov_set_hit]
      rfl
  · rw [if_pos c]
    refine ⟨_, ⟨sw, su, ss, sc, rfl, fun w' hw' => ?_⟩, XH_up hto hov_set_hit⟩
    refine hw w' ?_
    rw [← hw']
    show x.2 = if x.1 = 0 then some w else x.2
    rw [if_neg c]
/-- Marker -/
def mkK (h : AH) (to hr : Nat) (x : Nat → Int32) (hb : AH) : Prop := hb = hov h [(to, OB 7 [.int (nI hr), .ref (to + 1)]), (to + 1, ZA 100 x)]
def mkT (hr : Nat) (x : Nat → Int32) (w : WY) : (Nat → Int32) × Bool := (upd x (w.1 hr) 1, true)
theorem tl_M (hto : 63 ≤ to) {hr : Nat} (hH : H ≤ 6) (hhr : hr ≤ H) : TLc l G (mkK h to hr) (mkT hr) to n H := by
  rintro x hb s ce w rfl hce h9 h9' h11 h11' h12 h12' hrg
  have xt : XH (hov h [(to, OB 7 [.int (nI hr), .ref (to + 1)]), (to + 1, ZA 100 x)]) s ce to = some (OB 7 [.int (nI hr), .ref (to + 1)]) := (XH_hi (by omega)).trans hv_hit
  have xa : XH (hov h [(to, OB 7 [.int (nI hr), .ref (to + 1)]), (to + 1, ZA 100 x)]) s ce (to + 1) = some (ZA 100 x) := (XH_hi (by omega)).trans ((hv_miss (by omega)).trans hv_hit)
  refine AM.post ?_ (ax_tellM (b := true) rfl xt h11' h12' hrg h11 h12 (ax_wayM hto (by omega) (hce hr hhr).1 (hce hr hhr).2 rfl rfl xt xa))
  rintro r h' n' ⟨rfl, rfl, rfl⟩
  exact ⟨rfl, rfl, _, rfl, XH_up (by omega) (hov_set_miss (by omega) hov_set_hit)⟩
/-- Ender -/
def enK (h : AH) (to : Nat) (x : Nat → Int64) (hb : AH) : Prop := hb = hov h [(to, OB 10 [.ref (to + 1)]), (to + 1, JA 100 x)]
def enT (H g : Nat) (x : Nat → Int64) (w : WY) : (Nat → Int64) × Bool := (wayS H g w x, true)
theorem tl_E (hto : 63 ≤ to) {g : Nat} {FS : Nat → Int32} (hH : FS 2 = nI H) (hH6 : H ≤ 6) (hg : FS 6 = nI g) (hg3 : g ≤ 3) (x2 : h 2 = some TO0) (x3 : h 3 = some (IA 8 FS)) : TLc l G (enK h to) (enT H g) to n H := by
  rintro x hb s ce w rfl hce h9 h9' h11 h11' h12 h12' hrg
  have xt : XH (hov h [(to, OB 10 [.ref (to + 1)]), (to + 1, JA 100 x)]) s ce to = some (OB 10 [.ref (to + 1)]) := (XH_hi (by omega)).trans hv_hit
  have xa : XH (hov h [(to, OB 10 [.ref (to + 1)]), (to + 1, JA 100 x)]) s ce (to + 1) = some (JA 100 x) := (XH_hi (by omega)).trans ((hv_miss (by omega)).trans hv_hit)
  have y2 : XH (hov h [(to, OB 10 [.ref (to + 1)]), (to + 1, JA 100 x)]) s ce 2 = some TO0 := (XH_lo (by decide) (by decide)).trans ((hv_miss (by omega)).trans ((hv_miss (by omega)).trans x2))
  have y3 : XH (hov h [(to, OB 10 [.ref (to + 1)]), (to + 1, JA 100 x)]) s ce 3 = some (IA 8 FS) := (XH_lo (by decide) (by decide)).trans ((hv_miss (by omega)).trans ((hv_miss (by omega)).trans x3))
  refine AM.post ?_ (ax_tellE (b := true) rfl xt h11' h12' hrg h11 h12 (ax_wayE hto hH hH6 (hce H (Nat.le_refl _)).1 (hce H (Nat.le_refl _)).2 h9 h9' hg hg3 rfl rfl y2 y3 xt xa))
  rintro r h' n' ⟨rfl, rfl, rfl⟩
  exact ⟨rfl, rfl, _, rfl, XH_up (by omega) (hov_set_miss (by omega) hov_set_hit)⟩
/-- Knower -/
def knK (h : AH) (to : Nat) (kc : Nat → Int32) (x : Bool) (hb : AH) : Prop := hb = hov h [(to, OB 11 [.ref (to + 1), .int (b2i x)]), (to + 1, IA 7 kc)]
def knW (kc : Nat → Int32) (w : WY) : Nat → Bool := kwF (fun j => nI (w.1 j)) kc
def knT (kc : Nat → Int32) (H : Nat) (x : Bool) (w : WY) : Bool × Bool := (x || knW kc w (H + 1), !(x || knW kc w (H + 1)))
theorem kwF_congr {ce ce' kc : Nat → Int32} : ∀ k, (∀ j, j < k → ce j = ce' j) → kwF ce kc k = kwF ce' kc k
  | 0, _ => rfl
  | k + 1, h => by
    show (kwF ce kc k && decide (ce k = kc k)) = (kwF ce' kc k && decide (ce' k = kc k))
    rw [kwF_congr k (fun j hj => h j (by omega)), h k (by omega)]
theorem tl_K (hto : 63 ≤ to) {kc FS : Nat → Int32} (hH : FS 2 = nI H) (hH6 : H ≤ 6) (x2 : h 2 = some TO0) (x3 : h 3 = some (IA 8 FS)) : TLc l G (knK h to kc) (knT kc H) to n H := by
  rintro x hb s ce w rfl hce h9 h9' h11 h11' h12 h12' hrg
  have xt : XH (hov h [(to, OB 11 [.ref (to + 1), .int (b2i x)]), (to + 1, IA 7 kc)]) s ce to = some (OB 11 [.ref (to + 1), .int (b2i x)]) := (XH_hi (by omega)).trans hv_hit
  have xa : XH (hov h [(to, OB 11 [.ref (to + 1), .int (b2i x)]), (to + 1, IA 7 kc)]) s ce (to + 1) = some (IA 7 kc) := (XH_hi (by omega)).trans ((hv_miss (by omega)).trans hv_hit)
  have y2 : XH (hov h [(to, OB 11 [.ref (to + 1), .int (b2i x)]), (to + 1, IA 7 kc)]) s ce 2 = some TO0 := (XH_lo (by decide) (by decide)).trans ((hv_miss (by omega)).trans ((hv_miss (by omega)).trans x2))
  have y3 : XH (hov h [(to, OB 11 [.ref (to + 1), .int (b2i x)]), (to + 1, IA 7 kc)]) s ce 3 = some (IA 8 FS) := (XH_lo (by decide) (by decide)).trans ((hv_miss (by omega)).trans ((hv_miss (by omega)).trans x3))
  have wc := fun (l : Launch) (G : GW) => ax_wayK (l := l) (G := G) (n := n) (wt := ownW w) hto hH hH6 rfl rfl y2 y3 xt xa
  rw [show kwF ce kc (H + 1) = knW kc w (H + 1) from kwF_congr (H + 1) (fun j hj => (hce j (by omega)).1)] at wc
  refine AM.post ?_ (ax_tellK rfl xt h11' h12' hrg h11 h12 (wc l G))
  rintro r h' n' ⟨rfl, rfl, rfl⟩
  exact ⟨rfl, rfl, _, rfl, XH_up hto hov_set_hit⟩
end TELL
