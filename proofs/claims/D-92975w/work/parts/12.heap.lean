/-! rows that read and write the abstract heap; new cells; answers -/
set_option maxRecDepth 100000
section EWH
variable {l : Launch} {G : GW} {y : MethodName} {cc : ByteArray} {nL : Nat} {ret : Option FieldType} {fr mc ms : Nat} {Q : Option Value → AH → Nat → Prop} {k sl : Nat} {h : AH} {n pc t : Nat} {L : List (Option Value)} {st : List Value}
theorem shs_get {G : GW} : ∀ {fs : List Value} {j : Nat} {v : Value}, fs[j]? = some v → (shs G fs)[j]? = some (shv G v)
  | [], j, v, h => by simp at h
  | w :: fs, 0, v, h => by simp at h; subst h; rfl
  | w :: fs, j + 1, v, h => shs_get (fs := fs) (j := j) h
theorem shs_set {G : GW} : ∀ (fs : List Value) (j : Nat) (v : Value), shs G (fs.set j v) = (shs G fs).set j (shv G v)
  | [], _, _ => rfl
  | w :: fs, 0, v => rfl
  | w :: fs, j + 1, v => by
    show shv G w :: shs G (fs.set j v) = shv G w :: (shs G fs).set j (shv G v)
    rw [shs_set]
theorem shs_len {G : GW} : ∀ (fs : List Value), (shs G fs).length = fs.length
  | [] => rfl
  | w :: fs => by
    show (shs G fs).length + 1 = fs.length + 1
    rw [shs_len]
theorem shs_app {G : GW} : ∀ (a b : List Value), shs G (a ++ b) = shs G a ++ shs G b
  | [], b => rfl
  | w :: a, b => by
    show shv G w :: shs G (a ++ b) = shv G w :: (shs G a ++ shs G b)
    rw [shs_app]
theorem shs_rev {G : GW} : ∀ (a : List Value), shs G a.reverse = (shs G a).reverse
  | [] => rfl
  | w :: a => by
    rw [List.reverse_cons, shs_app, shs_rev]
    show (shs G a).reverse ++ [shv G w] = (shv G w :: shs G a).reverse
    rw [List.reverse_cons]
theorem shs_cat {G : GW} : ∀ (a : List Value), ((shs G a).map fun v => v.category).sum = (a.map fun v => v.category).sum
  | [] => rfl
  | w :: a => by
    show ((shv G w).category :: (shs G a).map fun v => v.category).sum = (w.category :: a.map fun v => v.category).sum
    rw [List.sum_cons, List.sum_cons, shs_cat, shv_cat]
theorem shv_fits {G : GW} {ty : FieldType} {v : Value} (h : fits ty v = true) : fits ty (shv G v) = true := by
  cases v with
  | retAddr x => cases ty <;> exact absurd h (by simp [fits])
  | _ => first | exact h | (cases ty <;> first | exact h | rfl)
theorem rf_nar {ty : FieldType} (r : Option Nat) : narrow ty (va_rf r) = va_rf r := by
  cases r <;> cases ty <;> rfl
theorem shv_nar {G : GW} {ty : FieldType} {v : Value} (h : narrow ty v = v) : narrow ty (shv G v) = shv G v := by
  cases v with
  | retAddr x =>
    cases x with
    | zero => cases ty <;> rfl
    | succ k => exact rf_nar _
  | _ => first | exact h | (cases ty <;> rfl)
/-! fields -/
theorem ew_get {ci a N j i : Nat} {C : String} {T : u_T} {ty : Nat → FieldType} {fs : List Value} {v : Value} (F : FC ci C T N ty) (hh : h a = some (OB ci fs)) (hj : j < N) (hw : Cond.fieldLink y.cls i (T j).1 (T j).2.1 (T j).2.2.1 ∈ lw_all) (hv : fs[j]? = some v) (hd : decode cc pc = .ok (.getfield i, 3)) (hp : pc + 3 = t)
    (kk : EW l G y cc nL ret fr mc ms Q k sl h n t L (v :: st)) : EW l G y cc nL ret fr mc ms Q k sl h n pc L (.ref a :: st) := by
  subst hp
  intro p e s m args below meth c C1 H locs ls hR hS hl
  exact va_get (D := gD G) (ci := ci) (v := shv G v) C1.1.1 C1.1.2.1 C1.1.2.2.2.2 F.2.1 C1.1.2.2.2.1 C1.2.2.2.2.1 (hR.one hh) 0 rfl F.1 j hj (C1.1.2.2.2.2 _ hw) (fun _ q => q) (shs_get hv) hd (kk p e s m args below meth c C1 H locs ls hR hS hl)
theorem ew_getN {ci a N j i : Nat} {C host : String} {T : u_T} {ty : Nat → FieldType} {fs : List Value} {v : Value} (F : FC ci C T N ty) (hh : h a = some (OB ci fs)) (hj : j < N) (hw : Cond.fieldLinkNest y.cls i (T j).1 (T j).2.1 (T j).2.2.1 host ∈ lw_tbl) (hv : fs[j]? = some v) (hd : decode cc pc = .ok (.getfield i, 3)) (hp : pc + 3 = t)
    (kk : EW l G y cc nL ret fr mc ms Q k sl h n t L (v :: st)) : EW l G y cc nL ret fr mc ms Q k sl h n pc L (.ref a :: st) := by
  subst hp
  intro p e s m args below meth c C1 H locs ls hR hS hl
  exact va_getN (D := gD G) (ci := ci) (v := shv G v) C1.1.1 C1.1.2.1 C1.1.2.2.2.2 F.2.1 C1.1.2.2.2.1 C1.2.2.2.2.1 (hR.one hh) 0 rfl F.1 j hj (va_Nw.use rfl (C1.2.2.2.2.2.1.1 _ hw rfl)) (fun _ q => q) (shs_get hv) hd (kk p e s m args below meth c C1 H locs ls hR hS hl)
/-- what a store of a field makes of the heap -/
theorem HR.put {G : GW} {h : AH} {n : Nat} {H H1 : Heap} (hR : HR G h n H) {ci a N j : Nat} {C : String} {T : u_T} {fs : List Value} {v : Value} (hc : vwCl[ci]? = some (C, T, N)) (hh : h a = some (OB ci fs)) (hj : j < N) (hl : j < fs.length) {cell : Cell} {i : Nat} (hi : (gD G).2 ci j = i) (hap : ∀ x y, x < N → y < N → x ≠ y → (gD G).2 ci x ≠ (gD G).2 ci y)
    (q1 : H[rho G a]? = some cell) (e1 : H1[rho G a]? = some (cell.setSlot i (shv G v))) (z : H1.size = H.size) (oq : ∀ q : Nat, q ≠ rho G a → H1[q]? = H[q]?) : HR G (va_up h a (some (OB ci (fs.set j v)))) n H1 := by
  refine hR.set (OB ci (fs.set j v)) hh ?_ z oq
  obtain ⟨r, h1, cell', g1, g2, g3, g4⟩ := hR.2.2.2 a _ hh
  have hr : r = (C, T, N) := Option.some.inj (h1.symm.trans hc)
  subst hr
  have hcell : cell' = cell := Option.some.inj (g1.symm.trans q1)
  subst hcell
  subst hi
  refine ⟨(C, T, N), hc, t_OB.to (V := updV (vp_V (shs G fs)) j (shv G v)) ⟨_, e1, g2, g3, t_set g4 hap hj (shv G v)⟩ (fun x _ => ?_)⟩
  show _ = vp_V (shs G (fs.set j v)) x
  rw [shs_set]
  exact vp_updV_set (by rw [shs_len]; exact hl) (shv G v) x
theorem ew_put {ci a N j i : Nat} {C : String} {T : u_T} {ty : Nat → FieldType} {fs fs' : List Value} {v : Value} {h' : AH} (F : FC ci C T N ty) (hh : h a = some (OB ci fs)) (hj : j < N) (hfin : (T j).2.2.2 = false) (hw : Cond.fieldLink y.cls i (T j).1 (T j).2.1 (T j).2.2.1 ∈ lw_all) (hn : narrow (ty j) v = v) (hfit : fits (ty j) v = true) (hl : j < fs.length) (hfs : fs.set j v = fs') (hd : decode cc pc = .ok (.putfield i, 3)) (hu : va_up h a (some (OB ci fs')) = h') (hp : pc + 3 = t)
    (kk : EW l G y cc nL ret fr mc ms Q k sl h' n t L st) : EW l G y cc nL ret fr mc ms Q k sl h n pc L (v :: .ref a :: st) := by
  subst hp hfs hu
  intro p e s m args below meth c C1 H locs ls hR hS hlv
  have hap := va_apart (own := C) C1.1.2.2.2.2 F.2.1 ty F.2.2.1 F.2.2.2 C1.2.2.2.2.1 F.1
  obtain ⟨r, h1, cell, q1, q2, q3, q4⟩ := hR.2.2.2 a _ hh
  have hr : r = (C, T, N) := Option.some.inj (h1.symm.trans F.1)
  subst hr
  obtain ⟨hSl, hfc, kC, hkC, hkind⟩ := C1.2.2.2.2.1.1 ci _ F.1
  obtain ⟨cf, kf, fi, f, hi, hsl⟩ := hSl j hj
  have hlay := C1.1.2.2.2.2 _ (F.2.1 _ (u_in_lay hj))
  unfold u_lay at hlay
  rw [if_neg (by rw [hfin]; decide)] at hlay
  have hst := (u_facts hfc hkC (u_lays C1.1.2.2.2.2 F.2.1 hj) hi).1
  have h6 := u_store hfc hkC hkind hlay hi (F.2.2.1 j hj) (shv_nar (G := G) hn) (shv_fits (G := G) hfit)
  refine W.putK C1.1.1 C1.1.2.1 (f := f) ⟨C1.1.2.2.2.1, C1.1.2.2.2.2 _ hw, ⟨_, _, _, hi⟩, hst⟩ (by rw [q2]; exact h6) q1 q3 (by rw [hsl]; exact k2_hasslot (q4 j hj)) rfl rfl hd fun H' e1 e2 e3 => ?_
  exact kk p e s m args below meth c C1 H' _ ls (hR.put F.1 hh hj hl hsl.symm hap q1 e1 e2 e3) (hS.put e2 e3 (hR.gw hh)) hlv
theorem ew_putN {ci a N j i : Nat} {C host : String} {T : u_T} {ty : Nat → FieldType} {fs fs' : List Value} {v : Value} {h' : AH} (F : FC ci C T N ty) (hh : h a = some (OB ci fs)) (hj : j < N) (hfin : (T j).2.2.2 = false) (hw : Cond.fieldLinkNest y.cls i (T j).1 (T j).2.1 (T j).2.2.1 host ∈ lw_tbl) (hn : narrow (ty j) v = v) (hfit : fits (ty j) v = true) (hl : j < fs.length) (hfs : fs.set j v = fs') (hd : decode cc pc = .ok (.putfield i, 3)) (hu : va_up h a (some (OB ci fs')) = h') (hp : pc + 3 = t)
    (kk : EW l G y cc nL ret fr mc ms Q k sl h' n t L st) : EW l G y cc nL ret fr mc ms Q k sl h n pc L (v :: .ref a :: st) := by
  subst hp hfs hu
  intro p e s m args below meth c C1 H locs ls hR hS hlv
  have hap := va_apart (own := C) C1.1.2.2.2.2 F.2.1 ty F.2.2.1 F.2.2.2 C1.2.2.2.2.1 F.1
  obtain ⟨r, h1, cell, q1, q2, q3, q4⟩ := hR.2.2.2 a _ hh
  have hr : r = (C, T, N) := Option.some.inj (h1.symm.trans F.1)
  subst hr
  obtain ⟨hSl, hfc, kC, hkC, hkind⟩ := C1.2.2.2.2.1.1 ci _ F.1
  obtain ⟨cf, kf, fi, f, hi, hsl⟩ := hSl j hj
  have hlay := C1.1.2.2.2.2 _ (F.2.1 _ (u_in_lay hj))
  unfold u_lay at hlay
  rw [if_neg (by rw [hfin]; decide)] at hlay
  have hst := (u_facts hfc hkC (u_lays C1.1.2.2.2.2 F.2.1 hj) hi).1
  have h6 := u_store hfc hkC hkind hlay hi (F.2.2.1 j hj) (shv_nar (G := G) hn) (shv_fits (G := G) hfit)
  refine va_WputK C1.1.1 C1.1.2.1 (f := f) C1.1.2.2.2.1 (va_Nw.use rfl (C1.2.2.2.2.2.1.1 _ hw rfl)) hi hst (by rw [q2]; exact h6) q1 q3 (by rw [hsl]; exact k2_hasslot (q4 j hj)) rfl rfl hd fun H' e1 e2 e3 => ?_
  exact kk p e s m args below meth c C1 H' _ ls (hR.put F.1 hh hj hl hsl.symm hap q1 e1 e2 e3) (hS.put e2 e3 (hR.gw hh)) hlv
/-- a final field, in its own constructor -/
theorem ew_putF {ci a N j i : Nat} {C : String} {T : u_T} {ty : Nat → FieldType} {fs fs' : List Value} {v : Value} {h' : AH} (F : FC ci C T N ty) (hh : h a = some (OB ci fs)) (hj : j < N) (hfin : (T j).2.2.2 = true) (hin : y.name = "<init>") (hdecl : (T j).1 = y.cls) (hw : Cond.fieldLink y.cls i (T j).1 (T j).2.1 (T j).2.2.1 ∈ lw_all) (hn : narrow (ty j) v = v) (hfit : fits (ty j) v = true) (hl : j < fs.length) (hfs : fs.set j v = fs') (hd : decode cc pc = .ok (.putfield i, 3)) (hu : va_up h a (some (OB ci fs')) = h') (hp : pc + 3 = t)
    (kk : EW l G y cc nL ret fr mc ms Q k sl h' n t L st) : EW l G y cc nL ret fr mc ms Q k sl h n pc L (v :: .ref a :: st) := by
  subst hp hfs hu
  intro p e s m args below meth c C1 H locs ls hR hS hlv
  have hap := va_apart (own := C) C1.1.2.2.2.2 F.2.1 ty F.2.2.1 F.2.2.2 C1.2.2.2.2.1 F.1
  obtain ⟨r, h1, cell, q1, q2, q3, q4⟩ := hR.2.2.2 a _ hh
  have hr : r = (C, T, N) := Option.some.inj (h1.symm.trans F.1)
  subst hr
  obtain ⟨hSl, hfc, kC, hkC, hkind⟩ := C1.2.2.2.2.1.1 ci _ F.1
  obtain ⟨cf, kf, fi, f, hi, hsl⟩ := hSl j hj
  have hlay := C1.1.2.2.2.2 _ (F.2.1 _ (u_in_lay hj))
  unfold u_lay at hlay
  rw [if_pos hfin] at hlay
  have hst := (u_facts hfc hkC (u_lays C1.1.2.2.2.2 F.2.1 hj) hi).1
  have hcf : m.cls = cf := by
    obtain ⟨_, _, c', _, _, _, -, -, hf', -, -, -, hown2, -⟩ := Cond.laysFinal_spec hlay
    have e1 : c' = cf := by have := hi.symm.trans hf'; simp at this; exact this.1.symm
    rw [hdecl] at hown2
    rw [← e1]; exact Option.some.inj (C1.1.2.2.2.1.symm.trans hown2)
  have h6 := u_fits hfc hkC hkind (Or.inr hlay) hi (F.2.2.1 j hj) (shv_nar (G := G) hn) (shv_fits (G := G) hfit)
  refine W.putFinK C1.1.1 C1.1.2.1 C1.1.2.2.2.1 (C1.1.2.2.2.2 _ hw) hi hst hcf (C1.2.2.2.1.trans hin) (by rw [q2]; exact h6) q1 q3 (by rw [hsl]; exact k2_hasslot (q4 j hj)) rfl rfl hd fun H' e1 e2 e3 => ?_
  exact kk p e s m args below meth c C1 H' _ ls (hR.put F.1 hh hj hl hsl.symm hap q1 e1 e2 e3) (hS.put e2 e3 (hR.gw hh)) hlv
theorem vpI {i : Int32} {N : Nat} (h : decide (¬ (i < 0 ∨ N ≤ i.toNatClampNeg)) = true) : vp_in i N := by
  have h2 := of_decide_eq_true h
  exact h2
/-! arrays -/
theorem ew_iald {a N j : Nat} {f : Nat → Int32} {i : Int32} (hh : h a = some (IA N f)) (hin : vp_in i N) (hj : i.toNatClampNeg = j) (hd : decode cc pc = .ok (.iaload, 1)) (hp : pc + 1 = t) (kk : EW l G y cc nL ret fr mc ms Q k sl h n t L (.int (f j) :: st)) : EW l G y cc nL ret fr mc ms Q k sl h n pc L (.int i :: .ref a :: st) := by
  subst hp hj
  intro p e s m args below meth c C1 H locs ls hR hS hl
  exact va_iald C1.1.1 C1.1.2.1 C1.2.2.2.2.1 (hR.one hh) 0 0 rfl rfl hin hd (kk p e s m args below meth c C1 H locs ls hR hS hl)
theorem ew_bald {a N j : Nat} {f : Nat → Int32} {i : Int32} (hh : h a = some (BA N f)) (hin : vp_in i N) (hj : i.toNatClampNeg = j) (hd : decode cc pc = .ok (.baload, 1)) (hp : pc + 1 = t) (kk : EW l G y cc nL ret fr mc ms Q k sl h n t L (.int (f j) :: st)) : EW l G y cc nL ret fr mc ms Q k sl h n pc L (.int i :: .ref a :: st) := by
  subst hp hj
  intro p e s m args below meth c C1 H locs ls hR hS hl
  exact va_bald C1.1.1 C1.1.2.1 C1.2.2.2.2.1 (hR.one hh) 0 1 rfl rfl hin hd (kk p e s m args below meth c C1 H locs ls hR hS hl)
theorem ew_zald {a N j : Nat} {f : Nat → Int32} {i : Int32} (hh : h a = some (ZA N f)) (hin : vp_in i N) (hj : i.toNatClampNeg = j) (hd : decode cc pc = .ok (.baload, 1)) (hp : pc + 1 = t) (kk : EW l G y cc nL ret fr mc ms Q k sl h n t L (.int (f j) :: st)) : EW l G y cc nL ret fr mc ms Q k sl h n pc L (.int i :: .ref a :: st) := by
  subst hp hj
  intro p e s m args below meth c C1 H locs ls hR hS hl
  exact va_zald C1.1.1 C1.1.2.1 C1.2.2.2.2.1 (hR.one hh) 0 3 rfl rfl hin hd (kk p e s m args below meth c C1 H locs ls hR hS hl)
theorem ew_sald {a N j : Nat} {f : Nat → Int32} {i : Int32} (hh : h a = some (SA N f)) (hin : vp_in i N) (hj : i.toNatClampNeg = j) (hd : decode cc pc = .ok (.saload, 1)) (hp : pc + 1 = t) (kk : EW l G y cc nL ret fr mc ms Q k sl h n t L (.int (f j) :: st)) : EW l G y cc nL ret fr mc ms Q k sl h n pc L (.int i :: .ref a :: st) := by
  subst hp hj
  intro p e s m args below meth c C1 H locs ls hR hS hl
  exact va_sald C1.1.1 C1.1.2.1 C1.2.2.2.2.1 (hR.one hh) 0 4 rfl rfl hin hd (kk p e s m args below meth c C1 H locs ls hR hS hl)
theorem ew_lald {a N j : Nat} {f : Nat → Int64} {i : Int32} (hh : h a = some (JA N f)) (hin : vp_in i N) (hj : i.toNatClampNeg = j) (hd : decode cc pc = .ok (.laload, 1)) (hp : pc + 1 = t) (kk : EW l G y cc nL ret fr mc ms Q k sl h n t L (.long (f j) :: st)) : EW l G y cc nL ret fr mc ms Q k sl h n pc L (.int i :: .ref a :: st) := by
  subst hp hj
  intro p e s m args below meth c C1 H locs ls hR hS hl
  exact va_lald C1.1.1 C1.1.2.1 C1.2.2.2.2.1 (hR.one hh) 0 2 rfl rfl hin hd (kk p e s m args below meth c C1 H locs ls hR hS hl)
theorem shv_rf (G : GW) (r : Option Nat) : shv G (va_rf r) = va_rf (r.map (rho G)) := by cases r <;> rfl
theorem ew_aald5 {a N j : Nat} {f : Nat → Option Nat} {i : Int32} (hh : h a = some (RA N f)) (hin : vp_in i N) (hj : i.toNatClampNeg = j) (hd : decode cc pc = .ok (.aaload, 1)) (hp : pc + 1 = t) (kk : EW l G y cc nL ret fr mc ms Q k sl h n t L (va_rf (f j) :: st)) : EW l G y cc nL ret fr mc ms Q k sl h n pc L (.int i :: .ref a :: st) := by
  subst hp hj
  intro p e s m args below meth c C1 H locs ls hR hS hl
  have kq := kk p e s m args below meth c C1 H locs ls hR hS hl
  have e1 : shs G (va_rf (f i.toNatClampNeg) :: st) = va_rf ((f i.toNatClampNeg).map (rho G)) :: shs G st := by
    show shv G _ :: shs G st = _
    rw [shv_rf]
  rw [e1] at kq
  exact va_aldq (C := "java/lang/Object") C1.1.1 C1.1.2.1 C1.2.2.2.2.1 (hR.one hh) 0 5 rfl rfl hin hd kq
theorem ew_aald6 {a N j : Nat} {f : Nat → Option Nat} {i : Int32} (hh : h a = some (RS N f)) (hin : vp_in i N) (hj : i.toNatClampNeg = j) (hd : decode cc pc = .ok (.aaload, 1)) (hp : pc + 1 = t) (kk : EW l G y cc nL ret fr mc ms Q k sl h n t L (va_rf (f j) :: st)) : EW l G y cc nL ret fr mc ms Q k sl h n pc L (.int i :: .ref a :: st) := by
  subst hp hj
  intro p e s m args below meth c C1 H locs ls hR hS hl
  have kq := kk p e s m args below meth c C1 H locs ls hR hS hl
  have e1 : shs G (va_rf (f i.toNatClampNeg) :: st) = va_rf ((f i.toNatClampNeg).map (rho G)) :: shs G st := by
    show shv G _ :: shs G st = _
    rw [shv_rf]
  rw [e1] at kq
  exact va_aldq (C := "SevenRings$Sheet") C1.1.1 C1.1.2.1 C1.2.2.2.2.1 (hR.one hh) 0 6 rfl rfl hin hd kq
theorem ew_alen {a kd : Nat} {x : vp_A} {v : Int32} (hh : h a = some (.inl (kd, x))) (hkd : kd < 7) (hv : Int32.ofNat x.1 = v) (hd : decode cc pc = .ok (.arraylength, 1)) (hp : pc + 1 = t) (kk : EW l G y cc nL ret fr mc ms Q k sl h n t L (.int v :: st)) : EW l G y cc nL ret fr mc ms Q k sl h n pc L (.ref a :: st) := by
  subst hp
  intro p e s m args below meth c C1 H locs ls hR hS hl
  have hg : ∃ ty, (gT G)[kd]? = some (gA G kd, ty) := by
    match kd, hkd with
    | 0, _ => exact ⟨_, rfl⟩
    | 1, _ => exact ⟨_, rfl⟩
    | 2, _ => exact ⟨_, rfl⟩
    | 3, _ => exact ⟨_, rfl⟩
    | 4, _ => exact ⟨_, rfl⟩
    | 5, _ => exact ⟨_, rfl⟩
    | 6, _ => exact ⟨_, rfl⟩
  obtain ⟨ty, hg⟩ := hg
  exact va_alen (x := sha G x) (v := v) C1.1.1 C1.1.2.1 C1.2.2.2.2.1 (hR.one hh) 0 kd rfl hg hv hd (kk p e s m args below meth c C1 H locs ls hR hS hl)
theorem ew_iast {a N j : Nat} {f : Nat → Int32} {i x : Int32} {h' : AH} (hh : h a = some (IA N f)) (hin : vp_in i N) (hj : i.toNatClampNeg = j) (hd : decode cc pc = .ok (.iastore, 1)) (hu : va_up h a (some (IA N (upd f j (x)))) = h') (hp : pc + 1 = t) (kk : EW l G y cc nL ret fr mc ms Q k sl h' n t L (st)) : EW l G y cc nL ret fr mc ms Q k sl h n pc L (.int x :: .int i :: .ref a :: st) := by
  subst hp hj hu
  intro p e s m args below meth c C1 H locs ls hR hS hl
  have hcell : H[rho G a]? = some (vp_cell (gA G 0) (N, .inl f)) := hR.2.2.2 a _ hh
  refine W.iast C1.1.1 C1.1.2.1 hcell ((C1.2.2.2.2.1.2 0 _ rfl).1 N (fun j => .int (f j))) (fun q => by cases q) (by show ¬ (i < 0 ∨ (arrV _ _ _).slots.size ≤ _); rw [arrV_size]; exact hin) rfl rfl hd fun H1 e1 z oq => ?_
  refine kk p e s m args below meth c C1 H1 _ ls (hR.set _ hh ?_ z oq) (hS.put z oq (hR.gw hh)) hl
  show H1[rho G a]? = some (vp_cell (gA G 0) (N, .inl (upd f i.toNatClampNeg (x))))
  rw [e1, vp_cell_i, vp_cell_i, arrV_store]
  congr 2
  funext q
  by_cases hq : q = i.toNatClampNeg
  · subst hq
    simp [updV, upd]
  · simp [updV, upd, hq]
theorem ew_bast {a N j : Nat} {f : Nat → Int32} {i x : Int32} {h' : AH} (hh : h a = some (BA N f)) (hin : vp_in i N) (hj : i.toNatClampNeg = j) (hd : decode cc pc = .ok (.bastore, 1)) (hu : va_up h a (some (BA N (upd f j (vp_nar .byte x)))) = h') (hp : pc + 1 = t) (kk : EW l G y cc nL ret fr mc ms Q k sl h' n t L (st)) : EW l G y cc nL ret fr mc ms Q k sl h n pc L (.int x :: .int i :: .ref a :: st) := by
  subst hp hj hu
  intro p e s m args below meth c C1 H locs ls hR hS hl
  have hcell : H[rho G a]? = some (vp_cell (gA G 1) (N, .inl f)) := hR.2.2.2 a _ hh
  refine W.bast C1.1.1 C1.1.2.1 hcell ((C1.2.2.2.2.1.2 1 _ rfl).1 N (fun j => .int (f j))) (fun q => by cases q) (by show ¬ (i < 0 ∨ (arrV _ _ _).slots.size ≤ _); rw [arrV_size]; exact hin) rfl rfl hd fun H1 e1 z oq => ?_
  refine kk p e s m args below meth c C1 H1 _ ls (hR.set _ hh ?_ z oq) (hS.put z oq (hR.gw hh)) hl
  show H1[rho G a]? = some (vp_cell (gA G 1) (N, .inl (upd f i.toNatClampNeg (vp_nar .byte x))))
  rw [e1, vp_cell_i, vp_cell_i, arrV_store]
  congr 2
  funext q
  by_cases hq : q = i.toNatClampNeg
  · subst hq
    simp [updV, upd, vp_nar]
    try rfl
  · simp [updV, upd, hq]
theorem ew_zast {a N j : Nat} {f : Nat → Int32} {i x : Int32} {h' : AH} (hh : h a = some (ZA N f)) (hin : vp_in i N) (hj : i.toNatClampNeg = j) (hd : decode cc pc = .ok (.bastore, 1)) (hu : va_up h a (some (ZA N (upd f j (vp_nar .boolean x)))) = h') (hp : pc + 1 = t) (kk : EW l G y cc nL ret fr mc ms Q k sl h' n t L (st)) : EW l G y cc nL ret fr mc ms Q k sl h n pc L (.int x :: .int i :: .ref a :: st) := by
  subst hp hj hu
  intro p e s m args below meth c C1 H locs ls hR hS hl
  have hcell : H[rho G a]? = some (vp_cell (gA G 3) (N, .inl f)) := hR.2.2.2 a _ hh
  refine W.zast C1.1.1 C1.1.2.1 hcell ((C1.2.2.2.2.1.2 3 _ rfl).1 N (fun j => .int (f j))) (fun q => by cases q) (by show ¬ (i < 0 ∨ (arrV _ _ _).slots.size ≤ _); rw [arrV_size]; exact hin) rfl rfl hd fun H1 e1 z oq => ?_
  refine kk p e s m args below meth c C1 H1 _ ls (hR.set _ hh ?_ z oq) (hS.put z oq (hR.gw hh)) hl
  show H1[rho G a]? = some (vp_cell (gA G 3) (N, .inl (upd f i.toNatClampNeg (vp_nar .boolean x))))
  rw [e1, vp_cell_i, vp_cell_i, arrV_store]
  congr 2
  funext q
  by_cases hq : q = i.toNatClampNeg
  · subst hq
    simp [updV, upd, vp_nar]
    try rfl
  · simp [updV, upd, hq]
theorem ew_sast {a N j : Nat} {f : Nat → Int32} {i x : Int32} {h' : AH} (hh : h a = some (SA N f)) (hin : vp_in i N) (hj : i.toNatClampNeg = j) (hd : decode cc pc = .ok (.sastore, 1)) (hu : va_up h a (some (SA N (upd f j (vp_nar .short x)))) = h') (hp : pc + 1 = t) (kk : EW l G y cc nL ret fr mc ms Q k sl h' n t L (st)) : EW l G y cc nL ret fr mc ms Q k sl h n pc L (.int x :: .int i :: .ref a :: st) := by
  subst hp hj hu
  intro p e s m args below meth c C1 H locs ls hR hS hl
  have hcell : H[rho G a]? = some (vp_cell (gA G 4) (N, .inl f)) := hR.2.2.2 a _ hh
  refine W.sast C1.1.1 C1.1.2.1 hcell ((C1.2.2.2.2.1.2 4 _ rfl).1 N (fun j => .int (f j))) (fun q => by cases q) (by show ¬ (i < 0 ∨ (arrV _ _ _).slots.size ≤ _); rw [arrV_size]; exact hin) rfl rfl hd fun H1 e1 z oq => ?_
  refine kk p e s m args below meth c C1 H1 _ ls (hR.set _ hh ?_ z oq) (hS.put z oq (hR.gw hh)) hl
  show H1[rho G a]? = some (vp_cell (gA G 4) (N, .inl (upd f i.toNatClampNeg (vp_nar .short x))))
  rw [e1, vp_cell_i, vp_cell_i, arrV_store]
  congr 2
  funext q
  by_cases hq : q = i.toNatClampNeg
  · subst hq
    simp [updV, upd, vp_nar]
    try rfl
  · simp [updV, upd, hq]
theorem ew_last {a N j : Nat} {f : Nat → Int64} {i : Int32} {x : Int64} {h' : AH} (hh : h a = some (JA N f)) (hin : vp_in i N) (hj : i.toNatClampNeg = j) (hd : decode cc pc = .ok (.lastore, 1)) (hu : va_up h a (some (JA N (vp_updL f j x))) = h') (hp : pc + 1 = t) (kk : EW l G y cc nL ret fr mc ms Q k sl h' n t L (st)) : EW l G y cc nL ret fr mc ms Q k sl h n pc L (.long x :: .int i :: .ref a :: st) := by
  subst hp hj hu
  intro p e s m args below meth c C1 H locs ls hR hS hl
  have hcell : H[rho G a]? = some (vp_cell (gA G 2) (N, .inr (.inl f))) := hR.2.2.2 a _ hh
  refine W.last C1.1.1 C1.1.2.1 hcell ((C1.2.2.2.2.1.2 2 _ rfl).1 N (fun j => .long (f j))) (fun q => by cases q) (by show ¬ (i < 0 ∨ (arrV _ _ _).slots.size ≤ _); rw [arrV_size]; exact hin) rfl rfl hd fun H1 e1 z oq => ?_
  refine kk p e s m args below meth c C1 H1 _ ls (hR.set _ hh ?_ z oq) (hS.put z oq (hR.gw hh)) hl
  show H1[rho G a]? = some (vp_cell (gA G 2) (N, .inr (.inl (vp_updL f i.toNatClampNeg x))))
  rw [e1, vp_cell_l, vp_cell_l, arrV_store]
  congr 2
  funext q
  by_cases hq : q = i.toNatClampNeg
  · subst hq
    simp [updV, vp_updL]
  · simp [updV, vp_updL, hq]
theorem ew_aast6 {a N j v : Nat} {f : Nat → Option Nat} {i : Int32} {vs : List Value} {h' : AH} (hh : h a = some (RS N f)) (hv : h v = some (OB 3 vs)) (hin : vp_in i N) (hj : i.toNatClampNeg = j) (hd : decode cc pc = .ok (.aastore, 1)) (hu : va_up h a (some (RS N (va_up f j (some v)))) = h') (hp : pc + 1 = t) (kk : EW l G y cc nL ret fr mc ms Q k sl h' n t L (st)) : EW l G y cc nL ret fr mc ms Q k sl h n pc L (.ref v :: .int i :: .ref a :: st) := by
  subst hp hj hu
  intro p e s m args below meth c C1 H locs ls hR hS hl
  have hcell : H[rho G a]? = some (vp_cell (gA G 6) (N, .inr (.inr (.inr (.inr (fun j => (f j).map (rho G))))))) := hR.2.2.2 a _ hh
  have hlt : i.toNatClampNeg < N := Nat.not_le.mp fun q => hin (Or.inr q)
  have h0 : ¬ i < 0 := fun q => hin (Or.inl q)
  obtain ⟨r', hr', cellV, g1, g2, g3, -⟩ := hR.2.2.2 v _ hv
  have hcls := (C1.2.2.2.2.1.1 3 _ rfl).2
  obtain ⟨kA, comp, k1, k2, k3, -⟩ := (C1.2.2.2.2.1.2 6 _ rfl).2
  have hcomp : comp = (gD G).1 3 := Option.some.inj (k3.symm.trans hcls.1)
  subst hcomp
  obtain ⟨kC, hkC, -⟩ := hcls.2
  refine W.aast C1.1.1 C1.1.2.1 hcell (fun q h => by cases h) (fun h => by cases h) k1 k2 rfl hkC ⟨h0, by show _ < (arrV _ _ _).slots.size; rw [arrV_size]; exact hlt⟩ g1 (fun q h => by rw [g3] at h; cases h) (by rw [g2]; exact hkC) (by rw [g2]; exact va_assign hcls) rfl rfl hd fun H1 e1 z oq => ?_
  refine kk p e s m args below meth c C1 H1 _ ls (hR.set _ hh ?_ z oq) (hS.put z oq (hR.gw hh)) hl
  show H1[rho G a]? = some (vp_cell (gA G 6) (N, .inr (.inr (.inr (.inr (fun j => ((va_up f i.toNatClampNeg (some v)) j).map (rho G)))))))
  rw [e1, vp_cell_q, vp_cell_q, arrV_store]
  congr 2
  funext q
  by_cases hq : q = i.toNatClampNeg
  · subst hq
    simp [updV, va_up, va_rf]
  · simp [updV, va_up, hq]
/-! new cells -/
theorem ew_newI {x : Int32} {N : Nat} {h' : AH} (hd : decode cc pc = .ok (.newarray .int, 2)) (hw : Cond.arrayClass .int ∈ lw_all) (hx : ¬ x < 0) (hN : x.toNatClampNeg = N) (hb : N ≤ 1000) (hk : k + 1 ≤ mc) (hs : sl + N ≤ ms) (hu : va_up h n (some (IA N (fun _ => 0))) = h') (hp : pc + 2 = t) (kk : EW l G y cc nL ret fr mc ms Q (k + 1) (sl + N) h' (n + 1) t L (.ref n :: st)) : EW l G y cc nL ret fr mc ms Q k sl h n pc L (.int x :: st) := by
  subst hp hu
  intro p e s m args below meth c C1 H locs ls hR hS hl
  refine va_newaK (atype := .int) C1.1.1 C1.1.2.1 (C1.1.2.2.2.2 _ hw) rfl hd rfl hx hN (by show N * _ ≤ _; first | (simp only [newarray.typeOf, componentBytes]; omega) | (dsimp [newarray.typeOf, componentBytes]; omega)) hk hs hR.1 fun H1 cA e1 z1 o1 hAr hNm => ?_
  have hcA : cA = gA G 0 := Option.some.inj (hNm.symm.trans (C1.2.2.2.2.1.2 0 _ rfl).2)
  subst hcA
  have kq := kk p e s m args below meth c C1 H1 locs ls (hR.push (IA N (fun _ => 0)) (by
    show H1[gN G + n]? = some (vp_cell (gA G 0) (N, .inl (fun _ => (0 : Int32))))
    exact e1) (by rw [z1, hR.1]) (fun q hq => o1 q (by rw [← hR.1]; exact hq))) ⟨by rw [z1, ← hR.1]; exact Nat.le_succ_of_le hS.1, fun q h1 h2 => (o1 q (by rw [← hR.1]; exact Nat.lt_of_lt_of_le h1 hS.1)).trans (hS.2.1 q h1 h2), hS.2.2⟩ hl
  have e2 : shs G (.ref n :: st) = .ref (gN G + n) :: shs G st := by
    show Value.ref (rho G n) :: shs G st = _
    rw [rho_pos G (by have := hR.2.1; omega)]
  rw [e2] at kq
  exact kq
theorem ew_newB {x : Int32} {N : Nat} {h' : AH} (hd : decode cc pc = .ok (.newarray .byte, 2)) (hw : Cond.arrayClass .byte ∈ lw_all) (hx : ¬ x < 0) (hN : x.toNatClampNeg = N) (hb : N ≤ 1000) (hk : k + 1 ≤ mc) (hs : sl + N ≤ ms) (hu : va_up h n (some (BA N (fun _ => 0))) = h') (hp : pc + 2 = t) (kk : EW l G y cc nL ret fr mc ms Q (k + 1) (sl + N) h' (n + 1) t L (.ref n :: st)) : EW l G y cc nL ret fr mc ms Q k sl h n pc L (.int x :: st) := by
  subst hp hu
  intro p e s m args below meth c C1 H locs ls hR hS hl
  refine va_newaK (atype := .byte) C1.1.1 C1.1.2.1 (C1.1.2.2.2.2 _ hw) rfl hd rfl hx hN (by show N * _ ≤ _; first | (simp only [newarray.typeOf, componentBytes]; omega) | (dsimp [newarray.typeOf, componentBytes]; omega)) hk hs hR.1 fun H1 cA e1 z1 o1 hAr hNm => ?_
  have hcA : cA = gA G 1 := Option.some.inj (hNm.symm.trans (C1.2.2.2.2.1.2 1 _ rfl).2)
  subst hcA
  have kq := kk p e s m args below meth c C1 H1 locs ls (hR.push (BA N (fun _ => 0)) (by
    show H1[gN G + n]? = some (vp_cell (gA G 1) (N, .inl (fun _ => (0 : Int32))))
    exact e1) (by rw [z1, hR.1]) (fun q hq => o1 q (by rw [← hR.1]; exact hq))) ⟨by rw [z1, ← hR.1]; exact Nat.le_succ_of_le hS.1, fun q h1 h2 => (o1 q (by rw [← hR.1]; exact Nat.lt_of_lt_of_le h1 hS.1)).trans (hS.2.1 q h1 h2), hS.2.2⟩ hl
  have e2 : shs G (.ref n :: st) = .ref (gN G + n) :: shs G st := by
    show Value.ref (rho G n) :: shs G st = _
    rw [rho_pos G (by have := hR.2.1; omega)]
  rw [e2] at kq
  exact kq
theorem ew_newJ {x : Int32} {N : Nat} {h' : AH} (hd : decode cc pc = .ok (.newarray .long, 2)) (hw : Cond.arrayClass .long ∈ lw_all) (hx : ¬ x < 0) (hN : x.toNatClampNeg = N) (hb : N ≤ 1000) (hk : k + 1 ≤ mc) (hs : sl + N ≤ ms) (hu : va_up h n (some (JA N (fun _ => 0))) = h') (hp : pc + 2 = t) (kk : EW l G y cc nL ret fr mc ms Q (k + 1) (sl + N) h' (n + 1) t L (.ref n :: st)) : EW l G y cc nL ret fr mc ms Q k sl h n pc L (.int x :: st) := by
  subst hp hu
  intro p e s m args below meth c C1 H locs ls hR hS hl
  refine va_newaK (atype := .long) C1.1.1 C1.1.2.1 (C1.1.2.2.2.2 _ hw) rfl hd rfl hx hN (by show N * _ ≤ _; first | (simp only [newarray.typeOf, componentBytes]; omega) | (dsimp [newarray.typeOf, componentBytes]; omega)) hk hs hR.1 fun H1 cA e1 z1 o1 hAr hNm => ?_
  have hcA : cA = gA G 2 := Option.some.inj (hNm.symm.trans (C1.2.2.2.2.1.2 2 _ rfl).2)
  subst hcA
  have kq := kk p e s m args below meth c C1 H1 locs ls (hR.push (JA N (fun _ => 0)) (by
    show H1[gN G + n]? = some (vp_cell (gA G 2) (N, .inr (.inl (fun _ => (0 : Int64)))))
    exact e1) (by rw [z1, hR.1]) (fun q hq => o1 q (by rw [← hR.1]; exact hq))) ⟨by rw [z1, ← hR.1]; exact Nat.le_succ_of_le hS.1, fun q h1 h2 => (o1 q (by rw [← hR.1]; exact Nat.lt_of_lt_of_le h1 hS.1)).trans (hS.2.1 q h1 h2), hS.2.2⟩ hl
  have e2 : shs G (.ref n :: st) = .ref (gN G + n) :: shs G st := by
    show Value.ref (rho G n) :: shs G st = _
    rw [rho_pos G (by have := hR.2.1; omega)]
  rw [e2] at kq
  exact kq
theorem ew_newZ {x : Int32} {N : Nat} {h' : AH} (hd : decode cc pc = .ok (.newarray .boolean, 2)) (hw : Cond.arrayClass .boolean ∈ lw_all) (hx : ¬ x < 0) (hN : x.toNatClampNeg = N) (hb : N ≤ 1000) (hk : k + 1 ≤ mc) (hs : sl + N ≤ ms) (hu : va_up h n (some (ZA N (fun _ => 0))) = h') (hp : pc + 2 = t) (kk : EW l G y cc nL ret fr mc ms Q (k + 1) (sl + N) h' (n + 1) t L (.ref n :: st)) : EW l G y cc nL ret fr mc ms Q k sl h n pc L (.int x :: st) := by
  subst hp hu
  intro p e s m args below meth c C1 H locs ls hR hS hl
  refine va_newaK (atype := .boolean) C1.1.1 C1.1.2.1 (C1.1.2.2.2.2 _ hw) rfl hd rfl hx hN (by show N * _ ≤ _; first | (simp only [newarray.typeOf, componentBytes]; omega) | (dsimp [newarray.typeOf, componentBytes]; omega)) hk hs hR.1 fun H1 cA e1 z1 o1 hAr hNm => ?_
  have hcA : cA = gA G 3 := Option.some.inj (hNm.symm.trans (C1.2.2.2.2.1.2 3 _ rfl).2)
  subst hcA
  have kq := kk p e s m args below meth c C1 H1 locs ls (hR.push (ZA N (fun _ => 0)) (by
    show H1[gN G + n]? = some (vp_cell (gA G 3) (N, .inl (fun _ => (0 : Int32))))
    exact e1) (by rw [z1, hR.1]) (fun q hq => o1 q (by rw [← hR.1]; exact hq))) ⟨by rw [z1, ← hR.1]; exact Nat.le_succ_of_le hS.1, fun q h1 h2 => (o1 q (by rw [← hR.1]; exact Nat.lt_of_lt_of_le h1 hS.1)).trans (hS.2.1 q h1 h2), hS.2.2⟩ hl
  have e2 : shs G (.ref n :: st) = .ref (gN G + n) :: shs G st := by
    show Value.ref (rho G n) :: shs G st = _
    rw [rho_pos G (by have := hR.2.1; omega)]
  rw [e2] at kq
  exact kq
theorem ew_newS {x : Int32} {N : Nat} {h' : AH} (hd : decode cc pc = .ok (.newarray .short, 2)) (hw : Cond.arrayClass .short ∈ lw_all) (hx : ¬ x < 0) (hN : x.toNatClampNeg = N) (hb : N ≤ 1000) (hk : k + 1 ≤ mc) (hs : sl + N ≤ ms) (hu : va_up h n (some (SA N (fun _ => 0))) = h') (hp : pc + 2 = t) (kk : EW l G y cc nL ret fr mc ms Q (k + 1) (sl + N) h' (n + 1) t L (.ref n :: st)) : EW l G y cc nL ret fr mc ms Q k sl h n pc L (.int x :: st) := by
  subst hp hu
  intro p e s m args below meth c C1 H locs ls hR hS hl
  refine va_newaK (atype := .short) C1.1.1 C1.1.2.1 (C1.1.2.2.2.2 _ hw) rfl hd rfl hx hN (by show N * _ ≤ _; first | (simp only [newarray.typeOf, componentBytes]; omega) | (dsimp [newarray.typeOf, componentBytes]; omega)) hk hs hR.1 fun H1 cA e1 z1 o1 hAr hNm => ?_
  have hcA : cA = gA G 4 := Option.some.inj (hNm.symm.trans (C1.2.2.2.2.1.2 4 _ rfl).2)
  subst hcA
  have kq := kk p e s m args below meth c C1 H1 locs ls (hR.push (SA N (fun _ => 0)) (by
    show H1[gN G + n]? = some (vp_cell (gA G 4) (N, .inl (fun _ => (0 : Int32))))
    exact e1) (by rw [z1, hR.1]) (fun q hq => o1 q (by rw [← hR.1]; exact hq))) ⟨by rw [z1, ← hR.1]; exact Nat.le_succ_of_le hS.1, fun q h1 h2 => (o1 q (by rw [← hR.1]; exact Nat.lt_of_lt_of_le h1 hS.1)).trans (hS.2.1 q h1 h2), hS.2.2⟩ hl
  have e2 : shs G (.ref n :: st) = .ref (gN G + n) :: shs G st := by
    show Value.ref (rho G n) :: shs G st = _
    rw [rho_pos G (by have := hR.2.1; omega)]
  rw [e2] at kq
  exact kq
theorem ew_newS6 {x : Int32} {N i : Nat} {h' : AH} (hd : decode cc pc = .ok (.anewarray i, 3)) (hw : Cond.classLink y.cls i "SevenRings$Sheet" ∈ lw_all) (hx : ¬ x < 0) (hN : x.toNatClampNeg = N) (hb : N ≤ 1000) (hk : k + 1 ≤ mc) (hs : sl + N ≤ ms) (hu : va_up h n (some (RS N (fun _ => none))) = h') (hp : pc + 3 = t) (kk : EW l G y cc nL ret fr mc ms Q (k + 1) (sl + N) h' (n + 1) t L (.ref n :: st)) : EW l G y cc nL ret fr mc ms Q k sl h n pc L (.int x :: st) := by
  subst hp hu hN
  intro p e s m args below meth c C1 H locs ls hR hS hl
  refine W.anew C1.1.1 C1.1.2.1 C1.1.2.2.2.1 (C1.1.2.2.2.2 _ hw) (va_AO.use C1.2.2.2.2.2.1.2.1) rfl hd rfl hx (by omega) hk hs fun cA kA comp f1 f2 f3 f4 => ?_
  obtain ⟨kA', comp', k1, k2, k3, k4⟩ := (C1.2.2.2.2.1.2 6 _ rfl).2
  have hcA : cA = gA G 6 := Option.some.inj (f1.symm.trans k4)
  subst hcA
  have e0 : (H.push ({ cls := gA G 6, slots := Array.replicate x.toNatClampNeg .null, vm := .none } : Cell))[gN G + n]? = some (arrV (gA G 6) x.toNatClampNeg (fun _ => .null)) := by rw [← hR.1, Array.getElem?_push_size, ← arrV_new]
  have o1 : ∀ q : Nat, q < H.size → (H.push ({ cls := gA G 6, slots := Array.replicate x.toNatClampNeg .null, vm := .none } : Cell))[q]? = H[q]? := fun q hq => by rw [Array.getElem?_push, if_neg (Nat.ne_of_lt hq)]
  have kq := kk p e s m args below meth c C1 _ locs ls (hR.push (RS x.toNatClampNeg (fun _ => none)) (by
    show (H.push _)[gN G + n]? = some (vp_cell (gA G 6) (x.toNatClampNeg, .inr (.inr (.inr (.inr (fun _ => none))))))
    exact e0) (by rw [Array.size_push]) o1) ⟨by rw [Array.size_push]; exact Nat.le_succ_of_le hS.1, fun q h1 h2 => (o1 q (Nat.lt_of_lt_of_le h1 hS.1)).trans (hS.2.1 q h1 h2), hS.2.2⟩ hl
  have e2 : shs G (.ref n :: st) = .ref H.size :: shs G st := by
    show Value.ref (rho G n) :: shs G st = _
    rw [rho_pos G (by have := hR.2.1; omega), hR.1]
  rw [e2] at kq
  exact kq
def dfl (N : Nat) (ty : Nat → FieldType) : List Value := (List.range N).map (fun j => defaultValue (ty j))
theorem shv_dfl (G : GW) (ty : FieldType) : shv G (defaultValue ty) = defaultValue ty := by cases ty <;> rfl
theorem shs_id (G : GW) : ∀ (l : List Value), (∀ v ∈ l, shv G v = v) → shs G l = l
  | [], _ => rfl
  | v :: l, h => by
    show shv G v :: shs G l = v :: l
    rw [h v List.mem_cons_self, shs_id G l (fun w hw => h w (List.mem_cons_of_mem _ hw))]
theorem shs_dfl (G : GW) (N : Nat) (ty : Nat → FieldType) : shs G (dfl N ty) = dfl N ty := by
  refine shs_id G _ (fun v hv => ?_)
  obtain ⟨j, -, rfl⟩ := List.mem_map.mp hv
  exact shv_dfl G (ty j)
theorem dfl_V {N : Nat} {ty : Nat → FieldType} {j : Nat} (h : j < N) : defaultValue (ty j) = vp_V (dfl N ty) j := by
  unfold vp_V dfl
  rw [List.getD_eq_getElem?_getD, List.getElem?_map, List.getElem?_range h]
  rfl
theorem ew_new {ci N i : Nat} {C : String} {T : u_T} {ty : Nat → FieldType} {fs : List Value} {h' : AH} (F : FC ci C T N ty) (hd : decode cc pc = .ok (.new i, 3)) (hw : Cond.classLink y.cls i C ∈ lw_all) (hw2 : Cond.instantiable C N ∈ lw_all) (hw3 : Cond.initialized C ∈ lw_all) (hk : k + 1 ≤ mc) (hs : sl + N ≤ ms) (hfs : dfl N ty = fs) (hu : va_up h n (some (OB ci fs)) = h') (hp : pc + 3 = t) (kk : EW l G y cc nL ret fr mc ms Q (k + 1) (sl + N) h' (n + 1) t L (.ref n :: st)) : EW l G y cc nL ret fr mc ms Q k sl h n pc L (st) := by
  subst hp hu hfs
  intro p e s m args below meth c C1 H locs ls hR hS hl
  have hKn := C1.2.2.2.2.1.1 ci _ F.1
  refine W.newcK C1.1.1 C1.1.2.1 C1.1.2.2.2.1 (C1.1.2.2.2.2 _ hw) (C1.1.2.2.2.2 _ hw2) (C1.1.2.2.2.2 _ hw3) rfl hd hk hs hKn.2.1 hR.1 fun H1 kC hkC e1 z1 o1 => ?_
  have kq := kk p e s m args below meth c C1 H1 locs ls (hR.push (OB ci (dfl N ty)) (by
    refine ⟨_, F.1, (u_born ty C1.1.2.2.2.2 F.2.1 hKn hkC e1 F.2.2.1).to (fun j hj => ?_)⟩
    show _ = vp_V (shs G (dfl N ty)) j
    rw [shs_dfl]
    exact dfl_V hj) (by rw [z1, hR.1]) (fun q hq => o1 q (by rw [← hR.1]; exact hq))) ⟨by rw [z1, ← hR.1]; exact Nat.le_succ_of_le hS.1, fun q h1 h2 => (o1 q (by rw [← hR.1]; exact Nat.lt_of_lt_of_le h1 hS.1)).trans (hS.2.1 q h1 h2), hS.2.2⟩ hl
  have e2 : shs G (.ref n :: st) = .ref (gN G + n) :: shs G st := by
    show Value.ref (rho G n) :: shs G st = _
    rw [rho_pos G (by have := hR.2.1; omega)]
  rw [e2] at kq
  exact kq
/-! answers -/
theorem ew_iret {v : Int32} (hr : ret = some .int) (hd : decode cc pc = .ok (.ireturn, 1)) (hk : k ≤ mc) (hs : sl ≤ ms) (hq : Q (some (.int v)) h n) : EW l G y cc nL ret fr mc ms Q k sl h n pc L ([.int v]) := by
  intro p e s m args below meth c C1 H locs ls hR hS hl
  refine W.widen hk hs (W_mono (fun _ => Or.inl) ?_)
  exact W.iret (v := v) C1.1.1 C1.1.2.1 (C1.2.1.trans hr) (fun t ht hW => ⟨⟨some (.int v), h, n, rfl, ⟨hq, rfl⟩, by rw [ht]; exact hR⟩, hS.F ht⟩) hS.2.2 hd C1.2.2.1
theorem ew_zret {v : Int32} (hr : ret = some .boolean) (hn : narrow .boolean (.int v) = .int v) (hd : decode cc pc = .ok (.ireturn, 1)) (hk : k ≤ mc) (hs : sl ≤ ms) (hq : Q (some (.int v)) h n) : EW l G y cc nL ret fr mc ms Q k sl h n pc L ([.int v]) := by
  intro p e s m args below meth c C1 H locs ls hR hS hl
  refine W.widen hk hs (W_mono (fun _ => Or.inl) ?_)
  exact W.zret (v := v) C1.1.1 C1.1.2.1 (C1.2.1.trans hr) hn (fun t ht hW => ⟨⟨some (.int v), h, n, rfl, ⟨hq, rfl⟩, by rw [ht]; exact hR⟩, hS.F ht⟩) hS.2.2 hd C1.2.2.1
theorem ew_lret {v : Int64} (hr : ret = some .long) (hd : decode cc pc = .ok (.lreturn, 1)) (hk : k ≤ mc) (hs : sl ≤ ms) (hq : Q (some (.long v)) h n) : EW l G y cc nL ret fr mc ms Q k sl h n pc L ([.long v]) := by
  intro p e s m args below meth c C1 H locs ls hR hS hl
  refine W.widen hk hs (W_mono (fun _ => Or.inl) ?_)
  exact W.lret (v := v) C1.1.1 C1.1.2.1 (C1.2.1.trans hr) (fun t ht hW => ⟨⟨some (.long v), h, n, rfl, ⟨hq, rfl⟩, by rw [ht]; exact hR⟩, hS.F ht⟩) hS.2.2 hd C1.2.2.1
theorem ew_vret (hr : ret = none) (hd : decode cc pc = .ok (.return_, 1)) (hk : k ≤ mc) (hs : sl ≤ ms) (hq : Q (none) h n) : EW l G y cc nL ret fr mc ms Q k sl h n pc L ([]) := by
  intro p e s m args below meth c C1 H locs ls hR hS hl
  refine W.widen hk hs (W_mono (fun _ => Or.inl) ?_)
  exact W.vret C1.1.1 C1.1.2.1 (C1.2.1.trans hr) (fun t ht hW => ⟨⟨none, h, n, rfl, ⟨hq, rfl⟩, by rw [ht]; exact hR⟩, hS.F ht⟩) hS.2.2 hd C1.2.2.1
theorem ew_aret {a : Nat} {rt : FieldType} (hr : ret = some rt) (hrt : (∃ n, rt = .object n) ∨ ∃ t, rt = .array t) (hd : decode cc pc = .ok (.areturn, 1)) (hk : k ≤ mc) (hs : sl ≤ ms) (hq : Q (some (.ref a)) h n) : EW l G y cc nL ret fr mc ms Q k sl h n pc L ([.ref a]) := by
  intro p e s m args below meth c C1 H locs ls hR hS hl
  refine W.widen hk hs (W_mono (fun _ => Or.inl) ?_)
  exact W.aret (v := .ref (rho G a)) C1.1.1 C1.1.2.1 (C1.2.1.trans hr) hrt (Or.inr ⟨_, rfl⟩) (fun t ht hW => ⟨⟨some (.ref a), h, n, rfl, ⟨hq, rfl⟩, by rw [ht]; exact hR⟩, hS.F ht⟩) hS.2.2 hd C1.2.2.1
end EWH
