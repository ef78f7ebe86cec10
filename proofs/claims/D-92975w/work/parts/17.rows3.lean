/-! further rows: the static empty array, Object[], mirrors, casts, Math -/
set_option maxRecDepth 100000
section EW3
variable {l : Launch} {G : GW} {y : MethodName} {cc : ByteArray} {nL : Nat} {ret : Option FieldType} {fr mc ms : Nat} {Q : Option Value → AH → Nat → Prop} {k sl : Nat} {h : AH} {n pc t : Nat} {L : List (Option Value)} {st : List Value}
theorem va_up_id {h : AH} {a : Nat} {c : AC} (e : h a = some c) : va_up h a (some c) = h := by
  funext j
  by_cases hj : j = a
  · rw [hj, va_up_self, e]
  · rw [va_up_ne _ _ hj]
theorem ew_gets0 {i : Nat} (hw : Cond.fieldLink y.cls i "java/util/ArrayList" "DEFAULTCAPACITY_EMPTY_ELEMENTDATA" "[Ljava/lang/Object;" ∈ lw_all) (hd : decode cc pc = .ok (.getstatic i, 3)) (hp : pc + 3 = t) (kk : EW l G y cc nL ret fr mc ms Q k sl h n t L (.ref 0 :: st)) : EW l G y cc nL ret fr mc ms Q k sl h n pc L st := by
  subst hp
  intro p e s m args below meth c C1 H locs ls hR hS hl
  exact va_gets C1.1.1 C1.1.2.1 C1.2.2.2.2.2.1.2.2.2.2.2.1 hS C1.1.2.2.2.1 (C1.1.2.2.2.2 _ hw) (fun x hx => hx) hd (kk p e s m args below meth c C1 H locs ls hR hS hl)
/-- the empty array's cell -/
theorem dcell {p : Program} {s : State} {m : MethodId} {args : Array Value} {meth : Method} {c : Code} (C1 : EC G y cc nL ret p s m args meth c) {H : Heap} {locs : List Loc} (hS : va_S (gW G) s.heap H locs) : ∃ cell : Cell, H[gd G]? = some cell ∧ cell.cls = gA G 5 ∧ cell.vm ≠ .unknown ∧ (∀ k, cell.vm ≠ .statics k) ∧ cell.slots.size = 0 := by
  obtain ⟨cell, h1, h2⟩ := C1.2.2.2.2.2.1.2.2.2.2.2.2.1
  have hle := C1.2.2.2.2.2.1.2.2.2.2.1
  exact ⟨cell, by rw [hS.2.1 _ (Array.getElem?_eq_some_iff.mp h1).1 (by show ¬ gN G < gd G; omega)]; exact h1, h2⟩
theorem ew_alen0 (hd : decode cc pc = .ok (.arraylength, 1)) (hp : pc + 1 = t) (kk : EW l G y cc nL ret fr mc ms Q k sl h n t L (.int 0 :: st)) : EW l G y cc nL ret fr mc ms Q k sl h n pc L (.ref 0 :: st) := by
  subst hp
  intro p e s m args below meth c C1 H locs ls hR hS hl
  obtain ⟨cell, h1, h2, h3, h4, h5⟩ := dcell C1 hS
  obtain ⟨-, k0, hk0, cm0, hkk0⟩ := (C1.2.2.2.2.1.2 5 _ rfl).1 0 (fun _ => .null)
  exact W.alen C1.1.1 C1.1.2.1 (ty := .object "java/lang/Object") h1 ⟨h4, k0, by rw [h2]; exact hk0, cm0, hkk0⟩ (by rw [h5]; rfl) rfl rfl hd (kk p e s m args below meth c C1 H locs ls hR hS hl)
theorem ew_dupx1 {v w : Value} (hd : decode cc pc = .ok (.dup_x1, 1)) (hv : v.category = 1) (hw : w.category = 1) (hp : pc + 1 = t) (kk : EW l G y cc nL ret fr mc ms Q k sl h n t L (v :: w :: v :: st)) : EW l G y cc nL ret fr mc ms Q k sl h n pc L (v :: w :: st) := by
  subst hp
  intro p e s m args below meth c C1 H locs ls hR hS hl
  exact lv_dup_x1 C1.1.1 C1.1.2.1 hd (by rw [shv_cat]; exact hv) (by rw [shv_cat]; exact hw) (kk p e s m args below meth c C1 H locs ls hR hS hl)
theorem ew_newR {x : Int32} {N i : Nat} {h' : AH} (hd : decode cc pc = .ok (.anewarray i, 3)) (hw : Cond.classLink y.cls i "java/lang/Object" ∈ lw_all) (hx : ¬ x < 0) (hN : x.toNatClampNeg = N) (hb : N ≤ 1000) (hk : k + 1 ≤ mc) (hs : sl + N ≤ ms) (hu : va_up h n (some (RA N (fun _ => none))) = h') (hp : pc + 3 = t) (kk : EW l G y cc nL ret fr mc ms Q (k + 1) (sl + N) h' (n + 1) t L (.ref n :: st)) : EW l G y cc nL ret fr mc ms Q k sl h n pc L (.int x :: st) := by
  subst hp hu hN
  intro p e s m args below meth c C1 H locs ls hR hS hl
  refine W.anew C1.1.1 C1.1.2.1 C1.1.2.2.2.1 (C1.1.2.2.2.2 _ hw) (va_AO.use C1.2.2.2.2.2.1.2.2.1) rfl hd rfl hx (by omega) hk hs fun cA kA comp f1 f2 f3 f4 => ?_
  obtain ⟨kA', comp', k1, k2, k3, k4⟩ := (C1.2.2.2.2.1.2 5 _ rfl).2
  have hcA : cA = gA G 5 := Option.some.inj (f1.symm.trans k4)
  subst hcA
  have e0 : (H.push ({ cls := gA G 5, slots := Array.replicate x.toNatClampNeg .null, vm := .none } : Cell))[gN G + n]? = some (arrV (gA G 5) x.toNatClampNeg (fun _ => .null)) := by rw [← hR.1, Array.getElem?_push_size, ← arrV_new]
  have o1 : ∀ q : Nat, q < H.size → (H.push ({ cls := gA G 5, slots := Array.replicate x.toNatClampNeg .null, vm := .none } : Cell))[q]? = H[q]? := fun q hq => by rw [Array.getElem?_push, if_neg (Nat.ne_of_lt hq)]
  have kq := kk p e s m args below meth c C1 _ locs ls (hR.push (RA x.toNatClampNeg (fun _ => none)) (by
    show (H.push _)[gN G + n]? = some (vp_cell (gA G 5) (x.toNatClampNeg, .inr (.inr (.inr (.inr (fun _ => none))))))
    exact e0) (by rw [Array.size_push]) o1) ⟨by rw [Array.size_push]; exact Nat.le_succ_of_le hS.1, fun q h1 h2 => (o1 q (Nat.lt_of_lt_of_le h1 hS.1)).trans (hS.2.1 q h1 h2), hS.2.2⟩ hl
  have e2 : shs G (.ref n :: st) = .ref H.size :: shs G st := by
    show Value.ref (rho G n) :: shs G st = _
    rw [rho_pos G (by have := hR.2.1; omega), hR.1]
  rw [e2] at kq
  exact kq
theorem ew_aast5 {a N j v ci Nf : Nat} {C : String} {Tf : u_T} {f : Nat → Option Nat} {i : Int32} {vs : List Value} {h' : AH} (hh : h a = some (RA N f)) (hcl : vwCl[ci]? = some (C, Tf, Nf)) (hv : h v = some (OB ci vs)) (hcast : Cond.castable C "java/lang/Object" ∈ lw_tbl) (hin : vp_in i N) (hj : i.toNatClampNeg = j) (hd : decode cc pc = .ok (.aastore, 1)) (hu : va_up h a (some (RA N (va_up f j (some v)))) = h') (hp : pc + 1 = t) (kk : EW l G y cc nL ret fr mc ms Q k sl h' n t L (st)) : EW l G y cc nL ret fr mc ms Q k sl h n pc L (.ref v :: .int i :: .ref a :: st) := by
  subst hp hj hu
  intro p e s m args below meth c C1 H locs ls hR hS hl
  have hcell : H[rho G a]? = some (vp_cell (gA G 5) (N, .inr (.inr (.inr (.inr (fun j => (f j).map (rho G))))))) := hR.2.2.2 a _ hh
  have hlt : i.toNatClampNeg < N := Nat.not_le.mp fun q => hin (Or.inr q)
  have h0 : ¬ i < 0 := fun q => hin (Or.inl q)
  obtain ⟨cellV, g1, g2, g3⟩ := recv C1 hR hcl hv
  obtain ⟨kA, comp, k1, k2, k3, -⟩ := (C1.2.2.2.2.1.2 5 _ rfl).2
  obtain ⟨kC, hkC, -⟩ := Vm.findClass_spec g3
  obtain ⟨kE, hkE, -⟩ := Vm.findClass_spec k3
  obtain ⟨c0, t0, f1, f2, f3⟩ := Cond.castable_spec (va_Nw.use (A := args) rfl (C1.2.2.2.2.2.1.1 _ hcast rfl))
  cases g3.symm.trans f1
  cases k3.symm.trans f2
  refine W.aast C1.1.1 C1.1.2.1 hcell (fun q h => by cases h) (fun h => by cases h) k1 k2 rfl hkE ⟨h0, by show _ < (arrV _ _ _).slots.size; rw [arrV_size]; exact hlt⟩ g1 (fun q h => by rw [h] at g2; cases g2) hkC f3 rfl rfl hd fun H1 e1 z oq => ?_
  refine kk p e s m args below meth c C1 H1 _ ls (hR.set _ hh ?_ z oq) (hS.put z oq (hR.gw hh)) hl
  show H1[rho G a]? = some (vp_cell (gA G 5) (N, .inr (.inr (.inr (.inr (fun j => ((va_up f i.toNatClampNeg (some v)) j).map (rho G)))))))
  rw [e1, vp_cell_q, vp_cell_q, arrV_store]
  congr 2
  funext q
  by_cases hq : q = i.toNatClampNeg
  · subst hq
    simp [updV, va_up, va_rf]
  · simp [updV, va_up, hq]
theorem ew_aastN5 {a N j : Nat} {f : Nat → Option Nat} {i : Int32} {h' : AH} (hh : h a = some (RA N f)) (hin : vp_in i N) (hj : i.toNatClampNeg = j) (hd : decode cc pc = .ok (.aastore, 1)) (hu : va_up h a (some (RA N (va_up f j none))) = h') (hp : pc + 1 = t) (kk : EW l G y cc nL ret fr mc ms Q k sl h' n t L (st)) : EW l G y cc nL ret fr mc ms Q k sl h n pc L (.null :: .int i :: .ref a :: st) := by
  subst hp hj hu
  intro p e s m args below meth c C1 H locs ls hR hS hl
  have hcell : H[rho G a]? = some (vp_cell (gA G 5) (N, .inr (.inr (.inr (.inr (fun j => (f j).map (rho G))))))) := hR.2.2.2 a _ hh
  refine va_WaastN (C := "java/lang/Object") C1.1.1 C1.1.2.1 hcell ((C1.2.2.2.2.1.2 5 _ rfl).1 N (fun j => va_rf ((f j).map (rho G)))) (fun h => by cases h) (by show ¬ (i < 0 ∨ (arrV _ _ _).slots.size ≤ _); rw [arrV_size]; exact hin) rfl rfl hd fun H1 e1 z oq => ?_
  refine kk p e s m args below meth c C1 H1 _ ls (hR.set _ hh ?_ z oq) (hS.put z oq (hR.gw hh)) hl
  show H1[rho G a]? = some (vp_cell (gA G 5) (N, .inr (.inr (.inr (.inr (fun j => ((va_up f i.toNatClampNeg none) j).map (rho G)))))))
  rw [e1, vp_cell_q, vp_cell_q, arrV_store]
  congr 2
  funext q
  by_cases hq : q = i.toNatClampNeg
  · subst hq
    simp [updV, va_up, va_rf]
  · simp [updV, va_up, hq]
/-! mirrors -/
abbrev MIR : Value := .retAddr 0
abbrev gcN : MethodName := ⟨"java/lang/Object", "getClass", "()Ljava/lang/Class;"⟩
theorem oaN {s : State} {cA : ClassId} (h : va_RA s cA (.object "java/lang/Object")) : s.vm.findClass "[Ljava/lang/Object;" = some cA := by
  obtain ⟨kA, comp, k1, k2, k3, k4⟩ := h
  have e : "[" ++ (FieldType.object "java/lang/Object").toString = "[Ljava/lang/Object;" := by decide +kernel
  rw [← e]
  exact k4
theorem ew_getC {i a : Nat} {N : Nat} {f : Nat → Option Nat} (hh : a = 0 ∨ h a = some (RA N f)) (hw : Cond.methodLink y.cls i gcN ∈ lw_all) (hw2 : Cond.declares gcN ∈ lw_tbl) (hw3 : Cond.selects "[Ljava/lang/Object;" gcN gcN ∈ lw_all) (hw4 : Cond.instanceMethod gcN ∈ lw_all) (hw5 : Cond.native gcN ∈ lw_all) (hd : decode cc pc = .ok (.invokevirtual i, 3)) (hfr : 1 ≤ fr) (hst : (st.map fun v => v.category).sum ≤ 8) (hp : pc + 3 = t) (kk : EW l G y cc nL ret fr mc ms Q k sl h n t L (MIR :: st)) : EW l G y cc nL ret fr mc ms Q k sl h n pc L (.ref a :: st) := by
  subst hp
  intro p e s m args below meth c C1 H locs ls hR hS hl
  have hr : ∃ cell : Cell, H[rho G a]? = some cell ∧ cell.vm.isStatics = false ∧ s.vm.findClass "[Ljava/lang/Object;" = some cell.cls := by
    have hn := oaN (C1.2.2.2.2.1.2 5 _ rfl).2
    rcases hh with rfl | hh
    · obtain ⟨cell, h1, h2, h3, h4, h5⟩ := dcell C1 hS
      refine ⟨cell, h1, ?_, by rw [h2]; exact hn⟩
      cases e : cell.vm with
      | statics q => exact absurd e (h4 q)
      | _ => rfl
    · exact ⟨_, hR.2.2.2 a _ hh, rfl, hn⟩
  exact va_getC C1.1.1 C1.1.2.1 (by rw [C1.1.2.2.1]; exact hl.1.symm) C1.1.2.2.2.1 (C1.1.2.2.2.2 _ hw) (va_Nw.use (A := args) rfl (C1.2.2.2.2.2.1.1 _ hw2 rfl)) (C1.1.2.2.2.2 _ hw3) (C1.1.2.2.2.2 _ hw4) (C1.1.2.2.2.2 _ hw5) C1.2.2.2.2.2.1.2.2.2.2.2.2.2.2.2.1 hr hfr (by
      show ((shs G st).map fun v => v.category).sum + 14 ≤ 40 * fr
      rw [shs_cat]
      omega) hd (kk p e s m args below meth c C1 H locs ls hR hS hl)
theorem ew_ldcM {i : Nat} (hw : Cond.classLink y.cls i "[Ljava/lang/Object;" ∈ lw_all) (hd : decode cc pc = .ok (.ldc i, 2)) (hp : pc + 2 = t) (kk : EW l G y cc nL ret fr mc ms Q k sl h n t L (MIR :: st)) : EW l G y cc nL ret fr mc ms Q k sl h n pc L st := by
  subst hp
  intro p e s m args below meth c C1 H locs ls hR hS hl
  exact va_ldcM C1.1.1 C1.1.2.1 C1.1.2.2.2.1 (C1.1.2.2.2.2 _ hw) C1.2.2.2.2.2.1.2.2.2.2.2.2.2.2.2.1 hd (kk p e s m args below meth c C1 H locs ls hR hS hl)
theorem ew_aload_nM {j : Fin 4} {i : Nat} (hd : decode cc pc = .ok (.aload_n j, 1)) (hi : (j : Nat) = i) (hv : L[i]? = some (some MIR)) (hp : pc + 1 = t) (kk : EW l G y cc nL ret fr mc ms Q k sl h n t L (MIR :: st)) : EW l G y cc nL ret fr mc ms Q k sl h n pc L (st) := by
  subst hp
  intro p e s m args below meth c C H locs ls hR hS hl
  exact lv_aload_n C.1.1 C.1.2.1 hd hi (hl.2.2 i _ hv) (kk p e s m args below meth c C H locs ls hR hS hl)
theorem ew_acmpM {off : Int} {tg : Nat} (hd : decode cc pc = .ok (.if_acmp .ne off, 3)) (ht : (pc : Int) + off = (tg : Int)) (hp : pc + 3 = t) (kk : EW l G y cc nL ret fr mc ms Q k sl h n t L st) : EW l G y cc nL ret fr mc ms Q k sl h n pc L (MIR :: MIR :: st) := by
  subst hp
  intro p e s m args below meth c C H locs ls hR hS hl
  exact lv_acmp_ne (rx := some (gM G)) (ry := some (gM G)) C.1.1 C.1.2.1 hd ht (fun q => absurd rfl q) (fun _ => kk p e s m args below meth c C H locs ls hR hS hl)
theorem ew_acmp0 {off : Int} (hd : decode cc pc = .ok (.if_acmp .eq off, 3)) (ht : (pc : Int) + off = (t : Int)) (kk : EW l G y cc nL ret fr mc ms Q k sl h n t L st) : EW l G y cc nL ret fr mc ms Q k sl h n pc L (.ref 0 :: .ref 0 :: st) := by
  intro p e s m args below meth c C H locs ls hR hS hl
  exact lv_acmp_eq (rx := some (gd G)) (ry := some (gd G)) C.1.1 C.1.2.1 hd ht (fun _ => kk p e s m args below meth c C H locs ls hR hS hl) (fun q => absurd rfl q)
/-! casts -/
theorem ew_castO {i a ci Nf : Nat} {C : String} {Tf : u_T} {fs : List Value} (hcl : vwCl[ci]? = some (C, Tf, Nf)) (hh : h a = some (OB ci fs)) (hw : Cond.classLink y.cls i C ∈ lw_all) (hd : decode cc pc = .ok (.checkcast i, 3)) (hp : pc + 3 = t) (kk : EW l G y cc nL ret fr mc ms Q k sl h n t L (.ref a :: st)) : EW l G y cc nL ret fr mc ms Q k sl h n pc L (.ref a :: st) := by
  subst hp
  intro p e s m args below meth c C1 H locs ls hR hS hl
  exact va_castS C1.1.1 C1.1.2.1 C1.1.2.2.2.1 (C1.1.2.2.2.2 _ hw) (C1.2.2.2.2.1.1 ci _ hcl).2 (recv C1 hR hcl hh) hd (kk p e s m args below meth c C1 H locs ls hR hS hl)
theorem ew_castA {i a K : Nat} {x : vp_A} {ty : FieldType} {nm : String} (hh : h a = some (.inl (K, x))) (hK : (gT G)[K]? = some (gA G K, ty)) (hn : ∀ {s : State} {cA : ClassId}, va_RA s cA ty → s.vm.findClass nm = some cA) (hw : Cond.classLink y.cls i nm ∈ lw_all) (hd : decode cc pc = .ok (.checkcast i, 3)) (hp : pc + 3 = t) (kk : EW l G y cc nL ret fr mc ms Q k sl h n t L (.ref a :: st)) : EW l G y cc nL ret fr mc ms Q k sl h n pc L (.ref a :: st) := by
  subst hp
  intro p e s m args below meth c C1 H locs ls hR hS hl
  exact va_castA C1.1.1 C1.1.2.1 C1.1.2.2.2.1 (C1.1.2.2.2.2 _ hw) (hR.one hh) 0 rfl (hn (C1.2.2.2.2.1.2 K _ hK).2) hd (kk p e s m args below meth c C1 H locs ls hR hS hl)
theorem ew_castN {i : Nat} (hd : decode cc pc = .ok (.checkcast i, 3)) (hp : pc + 3 = t) (kk : EW l G y cc nL ret fr mc ms Q k sl h n t L (.null :: st)) : EW l G y cc nL ret fr mc ms Q k sl h n pc L (.null :: st) := by
  subst hp
  intro p e s m args below meth c C1 H locs ls hR hS hl
  exact lv_castN C1.1.1 C1.1.2.1 hd (kk p e s m args below meth c C1 H locs ls hR hS hl)
theorem ew_instN {i : Nat} (hd : decode cc pc = .ok (.instanceof i, 3)) (hp : pc + 3 = t) (kk : EW l G y cc nL ret fr mc ms Q k sl h n t L (.int 0 :: st)) : EW l G y cc nL ret fr mc ms Q k sl h n pc L (.null :: st) := by
  subst hp
  intro p e s m args below meth c C1 H locs ls hR hS hl
  exact lv_instN C1.1.1 C1.1.2.1 hd (kk p e s m args below meth c C1 H locs ls hR hS hl)
theorem ew_instY {i a K : Nat} {x : vp_A} {ty : FieldType} {nm : String} (hh : h a = some (.inl (K, x))) (hK : (gT G)[K]? = some (gA G K, ty)) (hn : ∀ {s : State} {cA : ClassId}, va_RA s cA ty → s.vm.findClass nm = some cA) (hw : Cond.classLink y.cls i nm ∈ lw_all) (hd : decode cc pc = .ok (.instanceof i, 3)) (hp : pc + 3 = t) (kk : EW l G y cc nL ret fr mc ms Q k sl h n t L (.int 1 :: st)) : EW l G y cc nL ret fr mc ms Q k sl h n pc L (.ref a :: st) := by
  subst hp
  intro p e s m args below meth c C1 H locs ls hR hS hl T hT X
  have hc : H[rho G a]? = some (vp_cell (gA G K) (sha G x)) := hR.2.2.2 a _ hh
  have hvm0 : (vp_cell (gA G K) (sha G x)).vm = .none := by
    obtain ⟨n, f | f | f | f | f⟩ := x <;> rfl
  have hcl0 : (vp_cell (gA G K) (sha G x)).cls = gA G K := by
    obtain ⟨n, f | f | f | f | f⟩ := x <;> rfl
  obtain ⟨vm', X', st'⟩ := X.instanceofYes C1.1.1 C1.1.2.2.2.1 (C1.1.2.2.2.2 _ hw) (by rw [hT]; exact hc) (by rw [hvm0]; rfl) (hn (C1.2.2.2.2.1.2 K _ hK).2) (by rw [hcl0]; exact va_asg _ _) (g := F0 m pc ls (.ref (rho G a) :: shs G st)) rfl rfl (by rw [C1.1.2.1]; exact hd)
  obtain ⟨t2, a1, b1⟩ := kk p e s m args below meth c C1 H locs ls hR hS hl (T.setVm vm') hT X'
  exact ⟨t2, st' t2 a1, b1⟩
theorem ew_instNo {i a K : Nat} {x : vp_A} {ty : FieldType} {nm nm2 : String} (hh : h a = some (.inl (K, x))) (hK : (gT G)[K]? = some (gA G K, ty)) (hn : ∀ {s : State} {cA : ClassId}, va_RA s cA ty → s.vm.findClass nm = some cA) (hnc : (nm, nm2) ∈ ncl) (hw : Cond.classLink y.cls i nm2 ∈ lw_all) (hd : decode cc pc = .ok (.instanceof i, 3)) (hp : pc + 3 = t) (kk : EW l G y cc nL ret fr mc ms Q k sl h n t L (.int 0 :: st)) : EW l G y cc nL ret fr mc ms Q k sl h n pc L (.ref a :: st) := by
  subst hp
  intro p e s m args below meth c C1 H locs ls hR hS hl
  have hc : H[rho G a]? = some (vp_cell (gA G K) (sha G x)) := hR.2.2.2 a _ hh
  have hvm0 : (vp_cell (gA G K) (sha G x)).vm = .none := by
    obtain ⟨n, f | f | f | f | f⟩ := x <;> rfl
  have hcl0 : (vp_cell (gA G K) (sha G x)).cls = gA G K := by
    obtain ⟨n, f | f | f | f | f⟩ := x <;> rfl
  exact va_instNo C1.1.1 C1.1.2.1 C1.1.2.2.2.1 (C1.1.2.2.2.2 _ hw) (C1.2.2.2.2.2.1.2.2.2.2.2.2.2.2.2.2.1 _ hnc) ⟨_, hc, by rw [hvm0]; rfl, by rw [hcl0]; exact hn (C1.2.2.2.2.1.2 K _ hK).2⟩ hd (kk p e s m args below meth c C1 H locs ls hR hS hl)
/-! Math -/
theorem ew_mabs {i : Nat} {x : Int32} (hw : Cond.methodLink y.cls i Lib.Math.abs.name ∈ lw_all) (hw2 : Cond.static Lib.Math.abs.name ∈ lw_all) (hw3 : Cond.initialized "java/lang/Math" ∈ lw_all) (hw4 : Cond.code Lib.Math.abs.name Lib.Math.abs.code 1 (some .int) ∈ lw_all) (hd : decode cc pc = .ok (.invokestatic i, 3)) (hfr : 1 ≤ fr) (hk : k ≤ mc) (hs : sl ≤ ms) (hst : (st.map fun v => v.category).sum ≤ 8) (hp : pc + 3 = t) (kk : EW l G y cc nL ret fr mc ms Q k sl h n t L (.int (if 0 ≤ x then x else 0 - x) :: st)) : EW l G y cc nL ret fr mc ms Q k sl h n pc L (.int x :: st) := by
  subst hp
  intro p e s m args below meth c C1 H locs ls hR hS hl
  exact va_mabs C1.1.1 C1.1.2.1 (by rw [C1.1.2.2.1]; exact hl.1.symm) C1.1.2.2.2.1 (C1.1.2.2.2.2 _ hw) (C1.1.2.2.2.2 _ hw2) (C1.1.2.2.2.2 _ hw3) (C1.1.2.2.2.2 _ hw4) hfr (by
      show ((shs G st).map fun v => v.category).sum + 13 ≤ 40 * fr
      rw [shs_cat]
      omega) hk hs hd (kk p e s m args below meth c C1 H locs ls hR hS hl)
theorem ew_mmax {i : Nat} {x z : Int32} (hw : Cond.methodLink y.cls i Lib.Math.max.name ∈ lw_all) (hw2 : Cond.static Lib.Math.max.name ∈ lw_all) (hw3 : Cond.initialized "java/lang/Math" ∈ lw_all) (hw4 : Cond.code Lib.Math.max.name Lib.Math.max.code 2 (some .int) ∈ lw_all) (hd : decode cc pc = .ok (.invokestatic i, 3)) (hfr : 1 ≤ fr) (hk : k ≤ mc) (hs : sl ≤ ms) (hst : (st.map fun v => v.category).sum ≤ 8) (hp : pc + 3 = t) (kk : EW l G y cc nL ret fr mc ms Q k sl h n t L (.int (if x < z then z else x) :: st)) : EW l G y cc nL ret fr mc ms Q k sl h n pc L (.int z :: .int x :: st) := by
  subst hp
  intro p e s m args below meth c C1 H locs ls hR hS hl
  exact va_mmax C1.1.1 C1.1.2.1 (by rw [C1.1.2.2.1]; exact hl.1.symm) C1.1.2.2.2.1 (C1.1.2.2.2.2 _ hw) (C1.1.2.2.2.2 _ hw2) (C1.1.2.2.2.2 _ hw3) (C1.1.2.2.2.2 _ hw4) hfr (by
      show ((shs G st).map fun v => v.category).sum + 13 ≤ 40 * fr
      rw [shs_cat]
      omega) hk hs hd (kk p e s m args below meth c C1 H locs ls hR hS hl)
theorem ew_mmin {i : Nat} {x z : Int32} (hw : Cond.methodLink y.cls i Lib.Math.min.name ∈ lw_all) (hw2 : Cond.static Lib.Math.min.name ∈ lw_all) (hw3 : Cond.initialized "java/lang/Math" ∈ lw_all) (hw4 : Cond.code Lib.Math.min.name Lib.Math.min.code 2 (some .int) ∈ lw_all) (hd : decode cc pc = .ok (.invokestatic i, 3)) (hfr : 1 ≤ fr) (hk : k ≤ mc) (hs : sl ≤ ms) (hst : (st.map fun v => v.category).sum ≤ 8) (hp : pc + 3 = t) (kk : EW l G y cc nL ret fr mc ms Q k sl h n t L (.int (if z < x then z else x) :: st)) : EW l G y cc nL ret fr mc ms Q k sl h n pc L (.int z :: .int x :: st) := by
  subst hp
  intro p e s m args below meth c C1 H locs ls hR hS hl
  exact va_mmin C1.1.1 C1.1.2.1 (by rw [C1.1.2.2.1]; exact hl.1.symm) C1.1.2.2.2.1 (C1.1.2.2.2.2 _ hw) (C1.1.2.2.2.2 _ hw2) (C1.1.2.2.2.2 _ hw3) (C1.1.2.2.2.2 _ hw4) hfr (by
      show ((shs G st).map fun v => v.category).sum + 13 ≤ 40 * fr
      rw [shs_cat]
      omega) hk hs hd (kk p e s m args below meth c C1 H locs ls hR hS hl)
theorem ew_mabsL {i : Nat} {x : Int64} (hw : Cond.methodLink y.cls i Lib.MathLoose.abs_long.x ∈ lw_all) (hw2 : Cond.static Lib.MathLoose.abs_long.x ∈ lw_all) (hw3 : Cond.initialized "java/lang/Math" ∈ lw_all) (hw4 : Cond.code Lib.MathLoose.abs_long.x Lib.MathLoose.abs_long.code 2 (some .long) ∈ lw_all) (hd : decode cc pc = .ok (.invokestatic i, 3)) (hfr : 1 ≤ fr) (hk : k ≤ mc) (hs : sl ≤ ms) (hst : (st.map fun v => v.category).sum ≤ 8) (hp : pc + 3 = t) (kk : EW l G y cc nL ret fr mc ms Q k sl h n t L (.long (if 0 < x then x else -x) :: st)) : EW l G y cc nL ret fr mc ms Q k sl h n pc L (.long x :: st) := by
  subst hp
  intro p e s m args below meth c C1 H locs ls hR hS hl
  exact va_mabs_long C1.1.1 C1.1.2.1 (by rw [C1.1.2.2.1]; exact hl.1.symm) C1.1.2.2.2.1 (C1.1.2.2.2.2 _ hw) (C1.1.2.2.2.2 _ hw2) (C1.1.2.2.2.2 _ hw3) (C1.1.2.2.2.2 _ hw4) hfr (by
      show ((shs G st).map fun v => v.category).sum + 13 ≤ 40 * fr
      rw [shs_cat]
      omega) hk hs hd (kk p e s m args below meth c C1 H locs ls hR hS hl)
end EW3
