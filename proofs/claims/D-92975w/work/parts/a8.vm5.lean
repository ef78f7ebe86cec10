/-! rows whose instruction throws: newarray of a negative size, stores into null or out of bounds, a failing cast -/
set_option maxRecDepth 100000
section ENR
variable {l : Launch} {G : GW} {y : MethodName} {cc : ByteArray} {nL : Nat} {ret : Option FieldType} {fr mc ms : Nat} {Q : Option Value → AH → Nat → Prop} {k sl : Nat} {h : AH} {n pc t : Nat} {L : List (Option Value)} {st st0 : List Value}
theorem ew_newneg {x : Int32} {aty : ArrayType} (hd : decode cc pc = .ok (.newarray aty, 2)) (hx : x < 0) (hst : (st.map fun v => v.category).sum ≤ 8) (kk : EN l G y cc nL ret fr mc ms Q k sl h n pc L "java/lang/NegativeArraySizeException" (some (toString x))) : EW l G y cc nL ret fr mc ms Q k sl h n pc L (.int x :: st) := by
  intro p e s m args below meth c C1 H locs ls hR hS hl T hT X
  obtain ⟨t, a, b⟩ := kk p e s m args below meth c C1 H locs ls (shs G st) hR hS hl (by rw [shs_cat]; exact hst) T hT X
  exact ⟨t, X.newarrayNegative (g := F0 m pc ls (shs G (.int x :: st))) C1.1.1 rfl hx rfl (by rw [C1.1.2.1]; exact hd) t a, b⟩
theorem ew_bastN {i x : Int32} (hd : decode cc pc = .ok (.bastore, 1)) (hst : (st.map fun v => v.category).sum ≤ 8) (kk : EN l G y cc nL ret fr mc ms Q k sl h n pc L "java/lang/NullPointerException" none) : EW l G y cc nL ret fr mc ms Q k sl h n pc L (.int x :: .int i :: .null :: st) := by
  intro p e s m args below meth c C1 H locs ls hR hS hl T hT X
  obtain ⟨t, a, b⟩ := kk p e s m args below meth c C1 H locs ls (shs G st) hR hS hl (by rw [shs_cat]; exact hst) T hT X
  exact ⟨t, X.bastoreNull (g := F0 m pc ls (shs G (.int x :: .int i :: .null :: st))) C1.1.1 rfl rfl (by rw [C1.1.2.1]; exact hd) t a, b⟩
theorem ew_bastO {a N : Nat} {f : Nat → Int32} {i x : Int32} (hh : h a = some (BA N f)) (hout : i < 0 ∨ N ≤ i.toNatClampNeg) (hd : decode cc pc = .ok (.bastore, 1)) (hst : (st.map fun v => v.category).sum ≤ 8) (kk : EN l G y cc nL ret fr mc ms Q k sl h n pc L "java/lang/ArrayIndexOutOfBoundsException" (some (idxT i N))) : EW l G y cc nL ret fr mc ms Q k sl h n pc L (.int x :: .int i :: .ref a :: st) := by
  intro p e s m args below meth c C1 H locs ls hR hS hl T hT X
  have hcell : H[rho G a]? = some (vp_cell (gA G 1) (N, .inl f)) := hR.2.2.2 a _ hh
  obtain ⟨t, a1, b⟩ := kk p e s m args below meth c C1 H locs ls (shs G st) hR hS hl (by rw [shs_cat]; exact hst) T hT X
  refine ⟨t, X.bastoreOut (g := F0 m pc ls (shs G (.int x :: .int i :: .ref a :: st))) C1.1.1 (by rw [hT]; exact hcell) ((C1.2.2.2.2.1.2 1 _ rfl).1 N (fun j => .int (f j))) (by rw [arrV_size]; exact hout) rfl rfl (by rw [C1.1.2.1]; exact hd) t (by rw [arrV_size]; exact a1), b⟩
theorem ew_sastN {i x : Int32} (hd : decode cc pc = .ok (.sastore, 1)) (hst : (st.map fun v => v.category).sum ≤ 8) (kk : EN l G y cc nL ret fr mc ms Q k sl h n pc L "java/lang/NullPointerException" none) : EW l G y cc nL ret fr mc ms Q k sl h n pc L (.int x :: .int i :: .null :: st) := by
  intro p e s m args below meth c C1 H locs ls hR hS hl T hT X
  obtain ⟨t, a, b⟩ := kk p e s m args below meth c C1 H locs ls (shs G st) hR hS hl (by rw [shs_cat]; exact hst) T hT X
  exact ⟨t, X.sastoreNull (g := F0 m pc ls (shs G (.int x :: .int i :: .null :: st))) C1.1.1 rfl rfl (by rw [C1.1.2.1]; exact hd) t a, b⟩
theorem ew_sastO {a N : Nat} {f : Nat → Int32} {i x : Int32} (hh : h a = some (SA N f)) (hout : i < 0 ∨ N ≤ i.toNatClampNeg) (hd : decode cc pc = .ok (.sastore, 1)) (hst : (st.map fun v => v.category).sum ≤ 8) (kk : EN l G y cc nL ret fr mc ms Q k sl h n pc L "java/lang/ArrayIndexOutOfBoundsException" (some (idxT i N))) : EW l G y cc nL ret fr mc ms Q k sl h n pc L (.int x :: .int i :: .ref a :: st) := by
  intro p e s m args below meth c C1 H locs ls hR hS hl T hT X
  have hcell : H[rho G a]? = some (vp_cell (gA G 4) (N, .inl f)) := hR.2.2.2 a _ hh
  obtain ⟨t, a1, b⟩ := kk p e s m args below meth c C1 H locs ls (shs G st) hR hS hl (by rw [shs_cat]; exact hst) T hT X
  refine ⟨t, X.sastoreOut (g := F0 m pc ls (shs G (.int x :: .int i :: .ref a :: st))) C1.1.1 (by rw [hT]; exact hcell) ((C1.2.2.2.2.1.2 4 _ rfl).1 N (fun j => .int (f j))) (by rw [arrV_size]; exact hout) rfl rfl (by rw [C1.1.2.1]; exact hd) t (by rw [arrV_size]; exact a1), b⟩
theorem ew_iastN {i x : Int32} (hd : decode cc pc = .ok (.iastore, 1)) (hst : (st.map fun v => v.category).sum ≤ 8) (kk : EN l G y cc nL ret fr mc ms Q k sl h n pc L "java/lang/NullPointerException" none) : EW l G y cc nL ret fr mc ms Q k sl h n pc L (.int x :: .int i :: .null :: st) := by
  intro p e s m args below meth c C1 H locs ls hR hS hl T hT X
  obtain ⟨t, a, b⟩ := kk p e s m args below meth c C1 H locs ls (shs G st) hR hS hl (by rw [shs_cat]; exact hst) T hT X
  exact ⟨t, X.iastoreNull (g := F0 m pc ls (shs G (.int x :: .int i :: .null :: st))) C1.1.1 rfl rfl (by rw [C1.1.2.1]; exact hd) t a, b⟩
theorem ew_iastO {a N : Nat} {f : Nat → Int32} {i x : Int32} (hh : h a = some (IA N f)) (hout : i < 0 ∨ N ≤ i.toNatClampNeg) (hd : decode cc pc = .ok (.iastore, 1)) (hst : (st.map fun v => v.category).sum ≤ 8) (kk : EN l G y cc nL ret fr mc ms Q k sl h n pc L "java/lang/ArrayIndexOutOfBoundsException" (some (idxT i N))) : EW l G y cc nL ret fr mc ms Q k sl h n pc L (.int x :: .int i :: .ref a :: st) := by
  intro p e s m args below meth c C1 H locs ls hR hS hl T hT X
  have hcell : H[rho G a]? = some (vp_cell (gA G 0) (N, .inl f)) := hR.2.2.2 a _ hh
  obtain ⟨t, a1, b⟩ := kk p e s m args below meth c C1 H locs ls (shs G st) hR hS hl (by rw [shs_cat]; exact hst) T hT X
  refine ⟨t, X.iastoreOut (g := F0 m pc ls (shs G (.int x :: .int i :: .ref a :: st))) C1.1.1 (by rw [hT]; exact hcell) ((C1.2.2.2.2.1.2 0 _ rfl).1 N (fun j => .int (f j))) (by rw [arrV_size]; exact hout) rfl rfl (by rw [C1.1.2.1]; exact hd) t (by rw [arrV_size]; exact a1), b⟩
/-- a cast of a row of primitives that fails -/
theorem ew_castX {a N K K2 i : Nat} {f : Nat → Int32} {na nb : String} {ta tb : FieldType} (hh : h a = some (.inl (K, N, .inl f))) (hK : (gT G)[K]? = some (gA G K, ta)) (hK2 : (gT G)[K2]? = some (gA G K2, tb)) (hna : ∀ U : State, va_RA U (gA G K) ta → U.vm.findClass na = some (gA G K)) (hnb : ∀ U : State, va_RA U (gA G K2) tb → U.vm.findClass nb = some (gA G K2)) (ma : na ∈ prA) (mb : nb ∈ prA)
    (hw : Cond.classLink y.cls i nb ∈ lw_all) (hno : (na, nb) ∈ ncl) (hd : decode cc pc = .ok (.checkcast i, 3)) (hst : ((Value.ref a :: st).map fun v => v.category).sum ≤ 8) (kk : ∀ text : String, (text == notModelled) = false → (stringBytes (stringToUtf16 text)).size ≤ 4000 → EN l G y cc nL ret fr mc ms Q k sl h n pc L "java/lang/ClassCastException" (some text)) : EW l G y cc nL ret fr mc ms Q k sl h n pc L (.ref a :: st) := by
  intro p e s m args below meth c C1 H locs ls hR hS hl T hT X
  have hc0 : H[rho G a]? = some (vp_cell (gA G K) (N, .inl f)) := hR.2.2.2 a _ hh
  obtain ⟨hA, hRA⟩ := C1.2.2.2.2.1.2 K _ hK
  obtain ⟨hA2, hRA2⟩ := C1.2.2.2.2.1.2 K2 _ hK2
  obtain ⟨-, ka, hka, cma, hkka⟩ := hA N (fun j => .int (f j))
  obtain ⟨-, kb, hkb, cmb, hkkb⟩ := hA2 N (fun j => .int (f j))
  have hka : s.vm.classes[gA G K]? = some ka := hka
  have hkb : s.vm.classes[gA G K2]? = some kb := hkb
  have hpl : e.platform.magicAccessors = ({} : Platform).magicAccessors := by rw [X.admits.platform]
  have hcT := hnb s hRA2
  obtain ⟨c', hc', hcl⟩ := Cond.classLink_spec (args := args) C1.1.2.2.2.1 (C1.1.2.2.2.2 _ hw) e.platform hpl
  cases hcT.symm.trans hc'
  obtain ⟨dk, _, _, kt, hd1, _, _, _, _, hkt, _, hopen⟩ := hcl.here
  have hcl₀ := X.warmed.classLinks hcl
  have hW' : s.WarmedH (T.vm.noted m.cls i (.cls (gA G K2))) := X.warmed.noted hd1 hopen (State.rightAt_cls hcl)
  obtain ⟨ks', hks', eks⟩ := hW'.alike.2.2 _ _ hka
  obtain ⟨kt', hkt', ekt⟩ := hW'.alike.2.2 _ _ hkb
  have fa := fc_spec (k := ks') (by rw [hW'.alike.findClass]; exact hna s hRA) hks'
  have fb := fc_spec (k := kt') (by rw [hW'.alike.findClass]; exact hcT) hkt'
  have pa : ks'.ofPrimitives = true := ofP_of (k := ks') (c := cma) (t := ta) (by rw [eks]; exact hkka) (by rw [fa.1]; exact prA_len na ma)
  have pb : kt'.ofPrimitives = true := ofP_of (k := kt') (c := cmb) (t := tb) (by rw [ekt]; exact hkkb) (by rw [fb.1]; exact prA_len nb mb)
  have htx := castT_of (vm := T.vm.noted m.cls i (.cls (gA G K2))) fa fb pa pb
  obtain ⟨g1, g2⟩ := castT_ok na ma nb mb _ htx
  obtain ⟨t, a1, b1⟩ := kk _ g1 g2 p e s m args below meth c C1 H locs ls (shs G (.ref a :: st)) hR hS hl (by rw [shs_cat]; exact hst) (T.setVm (T.vm.noted m.cls i (.cls (gA G K2)))) hT (X.noted hW')
  refine ⟨t, ?_, b1⟩
  obtain ⟨nc, nt, z1, z2, z3⟩ := C1.2.2.2.2.2.1.2.2.2.2.2.2.2.2.2.2.1 _ hno
  cases (hna s hRA).symm.trans z1
  cases hcT.symm.trans z2
  have hexec := C1.1.1
  have hdg : decode c.code pc = .ok (.checkcast i, 3) := by rw [C1.1.2.1]; exact hd
  jvm_step X.here [hexec, hdg, checkcast.wp_cold (e := e) (s := T) (f := F0 m pc ls (shs G (.ref a :: st))) X.here.top rfl (resolveClass_links e.toSetting hcl₀) hcl₀.ready,
    checkcast.wp_ready (e := e) (s := T.setVm (T.vm.noted m.cls i (.cls (gA G K2)))) (f := F0 m pc ls (shs G (.ref a :: st))) X.here.top hcl₀.ready rfl]
  refine ⟨vp_cell (gA G K) (N, .inl f), by rw [hT]; exact hc0, (fun _ h => by cases h), ks', hks', kt', hkt', ?_⟩
  rw [if_neg (by rw [hW'.alike.assignable, show (vp_cell (gA G K) (N, .inl f)).cls = gA G K from rfl, z3]; decide)]
  exact a1
end ENR
