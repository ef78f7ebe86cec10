/-! further rows over the abstract heap: copies of arrays, the static empty array, Object[], mirrors, casts, Math -/
set_option maxRecDepth 100000
section EW2
variable {l : Launch} {G : GW} {y : MethodName} {cc : ByteArray} {nL : Nat} {ret : Option FieldType} {fr mc ms : Nat} {Q : Option Value → AH → Nat → Prop} {k sl : Nat} {h : AH} {n pc t : Nat} {L : List (Option Value)} {st : List Value}
theorem nn32 {z : Int32} (hz : ¬ z < 0) : z.toInt = (z.toNatClampNeg : Int) := by
  have hz0 : (0 : Int) ≤ z.toInt := by
    have := Int32.not_lt.mp hz
    simpa using Int32.le_iff_toInt_le.mp this
  show z.toInt = ((z.toInt.toNat : Nat) : Int)
  omega
theorem nfw_copy : nativeFrameWords "java/lang/System" "arraycopy" 5 + 11 ≤ 30 := by decide
/-- System.arraycopy between rows of ints, bytes or shorts -/
theorem ew_copyI {i a0 a K n0 n1 sp dp N : Nat} {f g : Nat → Int32} {ty : FieldType} {xs xd xn : Int32} {h' : AH} (hw : Cond.methodLink y.cls i arraycopyName ∈ lw_all) (hw2 : Cond.native arraycopyName ∈ lw_all) (hw3 : Cond.static arraycopyName ∈ lw_all) (hw4 : Cond.initialized "java/lang/System" ∈ lw_all)
    (ha0 : h a0 = some (.inl (K, n0, .inl f))) (ha : h a = some (.inl (K, n1, .inl g))) (hK : (gT G)[K]? = some (gA G K, ty)) (hprim : refKind ty = false) (h1 : ¬ xs < 0) (h2 : ¬ xd < 0) (h3 : ¬ xn < 0) (e1 : xs.toNatClampNeg = sp) (e2 : xd.toNatClampNeg = dp) (e3 : xn.toNatClampNeg = N) (h4 : sp + N ≤ n0) (h5 : dp + N ≤ n1) (hfit : ∀ i, i < N → fits ty (.int (f (sp + i))) = true)
    (hd : decode cc pc = .ok (.invokestatic i, 3)) (hfr : 1 ≤ fr) (hst : (st.map fun v => v.category).sum ≤ 8) (hu : va_up h a (some (.inl (K, n1, .inl (va_cpy f g sp dp N)))) = h') (hp : pc + 3 = t)
    (kk : EW l G y cc nL ret fr mc ms Q k sl h' n t L st) : EW l G y cc nL ret fr mc ms Q k sl h n pc L (.int xn :: .int xd :: .ref a :: .int xs :: .ref a0 :: st) := by
  subst hp hu e1 e2 e3
  intro p e s m args below meth c C1 H locs ls hR hS hl T hT X
  have hc0 : H[rho G a0]? = some (vp_cell (gA G K) (n0, .inl f)) := hR.2.2.2 a0 _ ha0
  have hc1 : H[rho G a]? = some (vp_cell (gA G K) (n1, .inl g)) := hR.2.2.2 a _ ha
  obtain ⟨-, k0, hk0, cm0, hkk0⟩ := (C1.2.2.2.2.1.2 K _ hK).1 n0 (fun j => .int (f j))
  obtain ⟨-, k1, hk1, cm1, hkk1⟩ := (C1.2.2.2.2.1.2 K _ hK).1 n1 (fun j => .int (g j))
  obtain ⟨vm', X', step⟩ := X.arraycopy C1.1.1 C1.1.2.2.2.1 (C1.1.2.2.2.2 _ hw) (C1.1.2.2.2.2 _ hw2) (C1.1.2.2.2.2 _ hw3) (C1.1.2.2.2.2 _ hw4) (src := rho G a0) (dst := rho G a) (cs := vp_cell (gA G K) (n0, .inl f)) (cd := vp_cell (gA G K) (n1, .inl g)) (srcPos := xs) (destPos := xd) (n := xn) (by rw [hT]; exact hc0) (by rw [hT]; exact hc1)
    (fun _ h => by cases h) (fun _ h => by cases h) (fun h => by cases h) (fun h => by cases h) hk0 hk1 hkk0 hkk1 (by simp [hprim]) h1 h2 h3
    (by rw [nn32 h1, nn32 h3]; show ¬ _ > ((arrV (gA G K) n0 (fun j => .int (f j))).slots.size : Int); rw [arrV_size]; omega)
    (by rw [nn32 h2, nn32 h3]; show ¬ _ > ((arrV (gA G K) n1 (fun j => .int (g j))).slots.size : Int); rw [arrV_size]; omega)
    (fun vm₁ _ i hi => by
      have e : (vp_cell (gA G K) (n0, .inl f)).slots.getD (xs.toNatClampNeg + i) .null = .int (f (xs.toNatClampNeg + i)) := by
        show (arrV (gA G K) n0 (fun j => .int (f j))).slots.getD _ _ = _
        rw [Array.getD_eq_getD_getElem?, arrV_read _ _ (by omega)]
        rfl
      refine ⟨?_, ?_⟩
      · rw [e]
        exact hfit i hi
      · rw [e]
        exact trivial)
    (g := F0 m pc ls (.int xn :: .int xd :: .ref (rho G a) :: .int xs :: .ref (rho G a0) :: shs G st)) rfl (by rw [C1.1.2.2.1]; exact hl.1) (rest := shs G st) rfl (by rw [C1.1.2.1]; exact hd) hfr (by
      show 2 * 0 + ((shs G st).map fun v => v.category).sum + (nativeFrameWords "java/lang/System" "arraycopy" 5 + 11) ≤ 40 * fr
      rw [shs_cat]
      have := nfw_copy
      omega)
  have ee : copied (vp_cell (gA G K) (n0, .inl f)) (vp_cell (gA G K) (n1, .inl g)) xs xd xn = vp_cell (gA G K) (n1, .inl (va_cpy f g xs.toNatClampNeg xd.toNatClampNeg xn.toNatClampNeg)) := va_copied (fun z => .int z) (gA G K) (gA G K) f g h4
  rw [ee] at X' step
  have hlt : rho G a < H.size := (Array.getElem?_eq_some_iff.mp hc1).1
  have oq : ∀ q : Nat, q ≠ rho G a → (H.setIfInBounds (rho G a) (vp_cell (gA G K) (n1, .inl (va_cpy f g xs.toNatClampNeg xd.toNatClampNeg xn.toNatClampNeg))))[q]? = H[q]? := fun q hq => by simp [Array.getElem?_setIfInBounds, Ne.symm hq]
  obtain ⟨t2, a1, b1⟩ := kk p e s m args below meth c C1 (H.setIfInBounds (rho G a) (vp_cell (gA G K) (n1, .inl (va_cpy f g xs.toNatClampNeg xd.toNatClampNeg xn.toNatClampNeg)))) _ ls
    (hR.set _ ha (show (H.setIfInBounds (rho G a) _)[rho G a]? = some _ by simp [Array.getElem?_setIfInBounds, hlt]; rfl) (by simp) oq)
    ⟨by simp; exact hS.1, fun q g1 g2 => by
      rw [oq q (fun e => g2 (by rw [e]; exact hR.gw ha))]
      exact hS.2.1 q g1 g2, fun q hq => by
      rcases List.mem_append.mp hq with h | h
      · exact hS.2.2 q h
      · obtain ⟨z, -, hz⟩ := List.mem_map.mp h
        rw [← hz]
        exact hR.gw ha⟩ hl _ (by rw [← hT]; rfl) X'
  exact ⟨t2, step t2 a1, b1⟩
/-- ... between rows of references to objects of one class -/
theorem ew_copyR {i a0 a n0 n1 sp dp N ci Nf : Nat} {C : String} {Tf : u_T} {f g : Nat → Option Nat} {xs xd xn : Int32} {h' : AH} (hw : Cond.methodLink y.cls i arraycopyName ∈ lw_all) (hw2 : Cond.native arraycopyName ∈ lw_all) (hw3 : Cond.static arraycopyName ∈ lw_all) (hw4 : Cond.initialized "java/lang/System" ∈ lw_all)
    (ha0 : h a0 = some (RA n0 f)) (ha : h a = some (RA n1 g)) (hcl : vwCl[ci]? = some (C, Tf, Nf)) (hcast : Cond.castable C "java/lang/Object" ∈ lw_tbl) (hel : ∀ i, i < N → ∀ q, f (sp + i) = some q → ∃ fs, h q = some (OB ci fs)) (h1 : ¬ xs < 0) (h2 : ¬ xd < 0) (h3 : ¬ xn < 0) (e1 : xs.toNatClampNeg = sp) (e2 : xd.toNatClampNeg = dp) (e3 : xn.toNatClampNeg = N) (h4 : sp + N ≤ n0) (h5 : dp + N ≤ n1)
    (hd : decode cc pc = .ok (.invokestatic i, 3)) (hfr : 1 ≤ fr) (hst : (st.map fun v => v.category).sum ≤ 8) (hu : va_up h a (some (RA n1 (va_cpy f g sp dp N))) = h') (hp : pc + 3 = t)
    (kk : EW l G y cc nL ret fr mc ms Q k sl h' n t L st) : EW l G y cc nL ret fr mc ms Q k sl h n pc L (.int xn :: .int xd :: .ref a :: .int xs :: .ref a0 :: st) := by
  subst hp hu e1 e2 e3
  intro p e s m args below meth c C1 H locs ls hR hS hl T hT X
  have hc0 : H[rho G a0]? = some (vp_cell (gA G 5) (n0, .inr (.inr (.inr (.inr (fun j => (f j).map (rho G))))))) := hR.2.2.2 a0 _ ha0
  have hc1 : H[rho G a]? = some (vp_cell (gA G 5) (n1, .inr (.inr (.inr (.inr (fun j => (g j).map (rho G))))))) := hR.2.2.2 a _ ha
  obtain ⟨-, k0, hk0, cm0, hkk0⟩ := (C1.2.2.2.2.1.2 5 _ rfl).1 n0 (fun j => va_rf ((f j).map (rho G)))
  obtain ⟨-, k1, hk1, cm1, hkk1⟩ := (C1.2.2.2.2.1.2 5 _ rfl).1 n1 (fun j => va_rf ((g j).map (rho G)))
  obtain ⟨vm', X', step⟩ := X.arraycopy C1.1.1 C1.1.2.2.2.1 (C1.1.2.2.2.2 _ hw) (C1.1.2.2.2.2 _ hw2) (C1.1.2.2.2.2 _ hw3) (C1.1.2.2.2.2 _ hw4) (src := rho G a0) (dst := rho G a) (cs := vp_cell (gA G 5) (n0, .inr (.inr (.inr (.inr (fun j => (f j).map (rho G))))))) (cd := vp_cell (gA G 5) (n1, .inr (.inr (.inr (.inr (fun j => (g j).map (rho G))))))) (srcPos := xs) (destPos := xd) (n := xn) (by rw [hT]; exact hc0) (by rw [hT]; exact hc1)
    (fun _ h => by cases h) (fun _ h => by cases h) (fun h => by cases h) (fun h => by cases h) hk0 hk1 hkk0 hkk1 rfl h1 h2 h3
    (by rw [nn32 h1, nn32 h3]; show ¬ _ > ((arrV (gA G 5) n0 (fun j => va_rf ((f j).map (rho G)))).slots.size : Int); rw [arrV_size]; omega)
    (by rw [nn32 h2, nn32 h3]; show ¬ _ > ((arrV (gA G 5) n1 (fun j => va_rf ((g j).map (rho G)))).slots.size : Int); rw [arrV_size]; omega)
    (fun vm₁ hal i hi => by
      have e : (vp_cell (gA G 5) (n0, .inr (.inr (.inr (.inr (fun j => (f j).map (rho G))))))).slots.getD (xs.toNatClampNeg + i) .null = va_rf ((f (xs.toNatClampNeg + i)).map (rho G)) := by
        show (arrV (gA G 5) n0 (fun j => va_rf ((f j).map (rho G)))).slots.getD _ _ = _
        rw [Array.getD_eq_getD_getElem?, arrV_read _ _ (by omega)]
        rfl
      rw [e]
      cases hy : f (xs.toNatClampNeg + i) with
      | none => exact ⟨rfl, trivial⟩
      | some q =>
        obtain ⟨fs, hq⟩ := hel i hi q hy
        obtain ⟨cellV, g1, g2, g3⟩ := recv C1 hR hcl hq
        obtain ⟨kA, comp, r1, r2, r3, -⟩ := (C1.2.2.2.2.1.2 5 _ rfl).2
        cases hk1.symm.trans r1
        cases hkk1.symm.trans r2
        obtain ⟨kC, hkC, -⟩ := Vm.findClass_spec g3
        obtain ⟨kE, hkE, -⟩ := Vm.findClass_spec r3
        obtain ⟨kC', hkC', -⟩ := hal.2.2 _ _ hkC
        obtain ⟨kE', hkE', -⟩ := hal.2.2 _ _ hkE
        obtain ⟨c0, t0, f1, f2, f3⟩ := Cond.castable_spec (va_Nw.use (A := args) rfl (C1.2.2.2.2.2.1.1 _ hcast rfl))
        cases g3.symm.trans f1
        cases r3.symm.trans f2
        refine ⟨rfl, cellV, (show T.heap[rho G q]? = some cellV by rw [hT]; exact g1), (fun q h => by rw [h] at g2; cases g2), ⟨kC', hkC'⟩, ?_, ?_⟩
        · exact ⟨kE', hkE'⟩
        · show vm₁.assignable _ _ = true
          rw [hal.assignable]
          exact f3)
    (g := F0 m pc ls (.int xn :: .int xd :: .ref (rho G a) :: .int xs :: .ref (rho G a0) :: shs G st)) rfl (by rw [C1.1.2.2.1]; exact hl.1) (rest := shs G st) rfl (by rw [C1.1.2.1]; exact hd) hfr (by
      show 2 * 0 + ((shs G st).map fun v => v.category).sum + (nativeFrameWords "java/lang/System" "arraycopy" 5 + 11) ≤ 40 * fr
      rw [shs_cat]
      have := nfw_copy
      omega)
  have ecp : (va_cpy (fun j => (f j).map (rho G)) (fun j => (g j).map (rho G)) xs.toNatClampNeg xd.toNatClampNeg xn.toNatClampNeg) = fun j => (va_cpy f g xs.toNatClampNeg xd.toNatClampNeg xn.toNatClampNeg j).map (rho G) := by
    funext j
    unfold va_cpy
    split <;> rfl
  have ee : copied (vp_cell (gA G 5) (n0, .inr (.inr (.inr (.inr (fun j => (f j).map (rho G))))))) (vp_cell (gA G 5) (n1, .inr (.inr (.inr (.inr (fun j => (g j).map (rho G))))))) xs xd xn = vp_cell (gA G 5) (n1, .inr (.inr (.inr (.inr (fun j => (va_cpy f g xs.toNatClampNeg xd.toNatClampNeg xn.toNatClampNeg j).map (rho G)))))) := by
    rw [← ecp, vp_cell_q, vp_cell_q, vp_cell_q]
    exact va_copied (fun z => va_rf z) (gA G 5) (gA G 5) _ _ h4
  rw [ee] at X' step
  have hlt : rho G a < H.size := (Array.getElem?_eq_some_iff.mp hc1).1
  have oq : ∀ q : Nat, q ≠ rho G a → (H.setIfInBounds (rho G a) (vp_cell (gA G 5) (n1, .inr (.inr (.inr (.inr (fun j => (va_cpy f g xs.toNatClampNeg xd.toNatClampNeg xn.toNatClampNeg j).map (rho G))))))))[q]? = H[q]? := fun q hq => by simp [Array.getElem?_setIfInBounds, Ne.symm hq]
  obtain ⟨t2, a1, b1⟩ := kk p e s m args below meth c C1 (H.setIfInBounds (rho G a) (vp_cell (gA G 5) (n1, .inr (.inr (.inr (.inr (fun j => (va_cpy f g xs.toNatClampNeg xd.toNatClampNeg xn.toNatClampNeg j).map (rho G)))))))) _ ls
    (hR.set _ ha (show (H.setIfInBounds (rho G a) _)[rho G a]? = some _ by simp [Array.getElem?_setIfInBounds, hlt]; rfl) (by simp) oq)
    ⟨by simp; exact hS.1, fun q g1 g2 => by
      rw [oq q (fun e => g2 (by rw [e]; exact hR.gw ha))]
      exact hS.2.1 q g1 g2, fun q hq => by
      rcases List.mem_append.mp hq with h | h
      · exact hS.2.2 q h
      · obtain ⟨z, -, hz⟩ := List.mem_map.mp h
        rw [← hz]
        exact hR.gw ha⟩ hl _ (by rw [← hT]; rfl) X'
  exact ⟨t2, step t2 a1, b1⟩
end EW2
