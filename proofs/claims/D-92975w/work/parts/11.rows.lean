/-! one row an instruction, over the abstract heap -/
set_option maxRecDepth 100000
section EWR
variable {l : Launch} {G : GW} {y : MethodName} {cc : ByteArray} {nL : Nat} {ret : Option FieldType} {fr mc ms : Nat} {Q : Option Value → AH → Nat → Prop} {k sl : Nat} {h : AH} {n pc t : Nat} {L L' : List (Option Value)} {st : List Value}
theorem ew_icm1  (hd : decode cc pc = .ok (.iconst (-1), 1)) (hp : pc + 1 = t) (kk : EW l G y cc nL ret fr mc ms Q k sl h n t L (.int (-1) :: st)) : EW l G y cc nL ret fr mc ms Q k sl h n pc L (st) := by
  subst hp
  intro p e s m args below meth c C H locs ls hR hS hl
  exact lv_iconst (v := (-1)) C.1.1 C.1.2.1 hd (by decide) (kk p e s m args below meth c C H locs ls hR hS hl)
theorem ew_ic0  (hd : decode cc pc = .ok (.iconst 0, 1)) (hp : pc + 1 = t) (kk : EW l G y cc nL ret fr mc ms Q k sl h n t L (.int 0 :: st)) : EW l G y cc nL ret fr mc ms Q k sl h n pc L (st) := by
  subst hp
  intro p e s m args below meth c C H locs ls hR hS hl
  exact lv_iconst (v := 0) C.1.1 C.1.2.1 hd (by decide) (kk p e s m args below meth c C H locs ls hR hS hl)
theorem ew_ic1  (hd : decode cc pc = .ok (.iconst 1, 1)) (hp : pc + 1 = t) (kk : EW l G y cc nL ret fr mc ms Q k sl h n t L (.int 1 :: st)) : EW l G y cc nL ret fr mc ms Q k sl h n pc L (st) := by
  subst hp
  intro p e s m args below meth c C H locs ls hR hS hl
  exact lv_iconst (v := 1) C.1.1 C.1.2.1 hd (by decide) (kk p e s m args below meth c C H locs ls hR hS hl)
theorem ew_ic2  (hd : decode cc pc = .ok (.iconst 2, 1)) (hp : pc + 1 = t) (kk : EW l G y cc nL ret fr mc ms Q k sl h n t L (.int 2 :: st)) : EW l G y cc nL ret fr mc ms Q k sl h n pc L (st) := by
  subst hp
  intro p e s m args below meth c C H locs ls hR hS hl
  exact lv_iconst (v := 2) C.1.1 C.1.2.1 hd (by decide) (kk p e s m args below meth c C H locs ls hR hS hl)
theorem ew_ic3  (hd : decode cc pc = .ok (.iconst 3, 1)) (hp : pc + 1 = t) (kk : EW l G y cc nL ret fr mc ms Q k sl h n t L (.int 3 :: st)) : EW l G y cc nL ret fr mc ms Q k sl h n pc L (st) := by
  subst hp
  intro p e s m args below meth c C H locs ls hR hS hl
  exact lv_iconst (v := 3) C.1.1 C.1.2.1 hd (by decide) (kk p e s m args below meth c C H locs ls hR hS hl)
theorem ew_ic4  (hd : decode cc pc = .ok (.iconst 4, 1)) (hp : pc + 1 = t) (kk : EW l G y cc nL ret fr mc ms Q k sl h n t L (.int 4 :: st)) : EW l G y cc nL ret fr mc ms Q k sl h n pc L (st) := by
  subst hp
  intro p e s m args below meth c C H locs ls hR hS hl
  exact lv_iconst (v := 4) C.1.1 C.1.2.1 hd (by decide) (kk p e s m args below meth c C H locs ls hR hS hl)
theorem ew_ic5  (hd : decode cc pc = .ok (.iconst 5, 1)) (hp : pc + 1 = t) (kk : EW l G y cc nL ret fr mc ms Q k sl h n t L (.int 5 :: st)) : EW l G y cc nL ret fr mc ms Q k sl h n pc L (st) := by
  subst hp
  intro p e s m args below meth c C H locs ls hR hS hl
  exact lv_iconst (v := 5) C.1.1 C.1.2.1 hd (by decide) (kk p e s m args below meth c C H locs ls hR hS hl)
theorem ew_bipush {z : Int} {v : Int32} (hd : decode cc pc = .ok (.bipush z, 2)) (hv : (Int8.ofInt z).toInt32 = v) (hp : pc + 2 = t) (kk : EW l G y cc nL ret fr mc ms Q k sl h n t L (.int v :: st)) : EW l G y cc nL ret fr mc ms Q k sl h n pc L (st) := by
  subst hp
  intro p e s m args below meth c C H locs ls hR hS hl
  exact lv_bipush (v := v) C.1.1 C.1.2.1 hd hv (kk p e s m args below meth c C H locs ls hR hS hl)
theorem ew_sipush {z : Int} {v : Int32} (hd : decode cc pc = .ok (.sipush z, 3)) (hv : (Int16.ofInt z).toInt32 = v) (hp : pc + 3 = t) (kk : EW l G y cc nL ret fr mc ms Q k sl h n t L (.int v :: st)) : EW l G y cc nL ret fr mc ms Q k sl h n pc L (st) := by
  subst hp
  intro p e s m args below meth c C H locs ls hR hS hl
  exact lv_sipush (v := v) C.1.1 C.1.2.1 hd hv (kk p e s m args below meth c C H locs ls hR hS hl)
theorem ew_lc0  (hd : decode cc pc = .ok (.lconst 0, 1)) (hp : pc + 1 = t) (kk : EW l G y cc nL ret fr mc ms Q k sl h n t L (.long 0 :: st)) : EW l G y cc nL ret fr mc ms Q k sl h n pc L (st) := by
  subst hp
  intro p e s m args below meth c C H locs ls hR hS hl
  exact lv_lconst (v := 0) C.1.1 C.1.2.1 hd (by decide) (kk p e s m args below meth c C H locs ls hR hS hl)
theorem ew_lc1  (hd : decode cc pc = .ok (.lconst 1, 1)) (hp : pc + 1 = t) (kk : EW l G y cc nL ret fr mc ms Q k sl h n t L (.long 1 :: st)) : EW l G y cc nL ret fr mc ms Q k sl h n pc L (st) := by
  subst hp
  intro p e s m args below meth c C H locs ls hR hS hl
  exact lv_lconst (v := 1) C.1.1 C.1.2.1 hd (by decide) (kk p e s m args below meth c C H locs ls hR hS hl)
theorem ew_null  (hd : decode cc pc = .ok (.aconst_null, 1)) (hp : pc + 1 = t) (kk : EW l G y cc nL ret fr mc ms Q k sl h n t L (.null :: st)) : EW l G y cc nL ret fr mc ms Q k sl h n pc L (st) := by
  subst hp
  intro p e s m args below meth c C H locs ls hR hS hl
  exact lv_null C.1.1 C.1.2.1 hd (kk p e s m args below meth c C H locs ls hR hS hl)
theorem ew_ldc {i : Nat} {v : Int32} (hd : decode cc pc = .ok (.ldc i, 2)) (hw : Cond.constant y.cls i v ∈ lw_all) (hp : pc + 2 = t) (kk : EW l G y cc nL ret fr mc ms Q k sl h n t L (.int v :: st)) : EW l G y cc nL ret fr mc ms Q k sl h n pc L (st) := by
  subst hp
  intro p e s m args below meth c C H locs ls hR hS hl
  exact lv_ldc C.1.1 C.1.2.1 C.1.2.2.2.1 (C.1.2.2.2.2 _ hw) hd (kk p e s m args below meth c C H locs ls hR hS hl)
theorem ew_ldc2 {i : Nat} {v : Int64} (hd : decode cc pc = .ok (.ldc2_w i, 3)) (hw : Cond.constantLong y.cls i v ∈ lw_all) (hp : pc + 3 = t) (kk : EW l G y cc nL ret fr mc ms Q k sl h n t L (.long v :: st)) : EW l G y cc nL ret fr mc ms Q k sl h n pc L (st) := by
  subst hp
  intro p e s m args below meth c C H locs ls hR hS hl
  exact lv_ldc2 C.1.1 C.1.2.1 C.1.2.2.2.1 (C.1.2.2.2.2 _ hw) hd (kk p e s m args below meth c C H locs ls hR hS hl)
theorem ew_iload_n {j : Fin 4} {i : Nat} {x : Int32} (hd : decode cc pc = .ok (.iload_n j, 1)) (hi : (j : Nat) = i) (hv : L[i]? = some (some (.int x))) (hp : pc + 1 = t) (kk : EW l G y cc nL ret fr mc ms Q k sl h n t L (.int x :: st)) : EW l G y cc nL ret fr mc ms Q k sl h n pc L (st) := by
  subst hp
  intro p e s m args below meth c C H locs ls hR hS hl
  exact lv_iload_n C.1.1 C.1.2.1 hd hi (hl.2.2 i _ hv) (kk p e s m args below meth c C H locs ls hR hS hl)
theorem ew_iload {i : Nat} {x : Int32} (hd : decode cc pc = .ok (.iload i, 2)) (hv : L[i]? = some (some (.int x))) (hp : pc + 2 = t) (kk : EW l G y cc nL ret fr mc ms Q k sl h n t L (.int x :: st)) : EW l G y cc nL ret fr mc ms Q k sl h n pc L (st) := by
  subst hp
  intro p e s m args below meth c C H locs ls hR hS hl
  exact lv_iload C.1.1 C.1.2.1 hd (hl.2.2 i _ hv) (kk p e s m args below meth c C H locs ls hR hS hl)
theorem ew_lload_n {j : Fin 4} {i : Nat} {x : Int64} (hd : decode cc pc = .ok (.lload_n j, 1)) (hi : (j : Nat) = i) (hv : L[i]? = some (some (.long x))) (hp : pc + 1 = t) (kk : EW l G y cc nL ret fr mc ms Q k sl h n t L (.long x :: st)) : EW l G y cc nL ret fr mc ms Q k sl h n pc L (st) := by
  subst hp
  intro p e s m args below meth c C H locs ls hR hS hl
  exact lv_lload_n C.1.1 C.1.2.1 hd hi (hl.2.2 i _ hv) (kk p e s m args below meth c C H locs ls hR hS hl)
theorem ew_lload {i : Nat} {x : Int64} (hd : decode cc pc = .ok (.lload i, 2)) (hv : L[i]? = some (some (.long x))) (hp : pc + 2 = t) (kk : EW l G y cc nL ret fr mc ms Q k sl h n t L (.long x :: st)) : EW l G y cc nL ret fr mc ms Q k sl h n pc L (st) := by
  subst hp
  intro p e s m args below meth c C H locs ls hR hS hl
  exact lv_lload C.1.1 C.1.2.1 hd (hl.2.2 i _ hv) (kk p e s m args below meth c C H locs ls hR hS hl)
theorem ew_aload_n {j : Fin 4} {i : Nat} {x : Nat} (hd : decode cc pc = .ok (.aload_n j, 1)) (hi : (j : Nat) = i) (hv : L[i]? = some (some (.ref x))) (hp : pc + 1 = t) (kk : EW l G y cc nL ret fr mc ms Q k sl h n t L (.ref x :: st)) : EW l G y cc nL ret fr mc ms Q k sl h n pc L (st) := by
  subst hp
  intro p e s m args below meth c C H locs ls hR hS hl
  exact lv_aload_n C.1.1 C.1.2.1 hd hi (hl.2.2 i _ hv) (kk p e s m args below meth c C H locs ls hR hS hl)
theorem ew_aload {i : Nat} {x : Nat} (hd : decode cc pc = .ok (.aload i, 2)) (hv : L[i]? = some (some (.ref x))) (hp : pc + 2 = t) (kk : EW l G y cc nL ret fr mc ms Q k sl h n t L (.ref x :: st)) : EW l G y cc nL ret fr mc ms Q k sl h n pc L (st) := by
  subst hp
  intro p e s m args below meth c C H locs ls hR hS hl
  exact lv_aload C.1.1 C.1.2.1 hd (hl.2.2 i _ hv) (kk p e s m args below meth c C H locs ls hR hS hl)
theorem ew_aload_nN {j : Fin 4} {i : Nat} (hd : decode cc pc = .ok (.aload_n j, 1)) (hi : (j : Nat) = i) (hv : L[i]? = some (some .null)) (hp : pc + 1 = t) (kk : EW l G y cc nL ret fr mc ms Q k sl h n t L (.null :: st)) : EW l G y cc nL ret fr mc ms Q k sl h n pc L (st) := by
  subst hp
  intro p e s m args below meth c C H locs ls hR hS hl
  exact lv_aload_nN C.1.1 C.1.2.1 hd hi (hl.2.2 i _ hv) (kk p e s m args below meth c C H locs ls hR hS hl)
theorem ew_aloadN {i : Nat} (hd : decode cc pc = .ok (.aload i, 2)) (hv : L[i]? = some (some .null)) (hp : pc + 2 = t) (kk : EW l G y cc nL ret fr mc ms Q k sl h n t L (.null :: st)) : EW l G y cc nL ret fr mc ms Q k sl h n pc L (st) := by
  subst hp
  intro p e s m args below meth c C H locs ls hR hS hl
  exact lv_aloadN C.1.1 C.1.2.1 hd (hl.2.2 i _ hv) (kk p e s m args below meth c C H locs ls hR hS hl)
theorem ew_istore_n {j : Fin 4} {i : Nat} {x : Int32} (hd : decode cc pc = .ok (.istore_n j, 1)) (hi : (j : Nat) = i) (hn : i < nL) (hL : st1 L i (.int x) = L') (hp : pc + 1 = t) (kk : EW l G y cc nL ret fr mc ms Q k sl h n t L' (st)) : EW l G y cc nL ret fr mc ms Q k sl h n pc L (.int x :: st) := by
  subst hp
  subst hL
  intro p e s m args below meth c C H locs ls hR hS hl
  exact lv_istore_n C.1.1 C.1.2.1 hd hi hl.has hn rfl (fun ls' hl' => kk p e s m args below meth c C H locs ls' hR hS (lvh_st1 hl'))
theorem ew_istore {i : Nat} {x : Int32} (hd : decode cc pc = .ok (.istore i, 2)) (hn : i < nL) (hL : st1 L i (.int x) = L') (hp : pc + 2 = t) (kk : EW l G y cc nL ret fr mc ms Q k sl h n t L' (st)) : EW l G y cc nL ret fr mc ms Q k sl h n pc L (.int x :: st) := by
  subst hp
  subst hL
  intro p e s m args below meth c C H locs ls hR hS hl
  exact lv_istore C.1.1 C.1.2.1 hd hl.has hn rfl (fun ls' hl' => kk p e s m args below meth c C H locs ls' hR hS (lvh_st1 hl'))
theorem ew_lstore_n {j : Fin 4} {i : Nat} {x : Int64} (hd : decode cc pc = .ok (.lstore_n j, 1)) (hi : (j : Nat) = i) (hn : i + 1 < nL) (hL : st2 L i (.long x) = L') (hp : pc + 1 = t) (kk : EW l G y cc nL ret fr mc ms Q k sl h n t L' (st)) : EW l G y cc nL ret fr mc ms Q k sl h n pc L (.long x :: st) := by
  subst hp
  subst hL
  intro p e s m args below meth c C H locs ls hR hS hl
  exact lv_lstore_n C.1.1 C.1.2.1 hd hi hl.has hn rfl (fun ls' hl' => kk p e s m args below meth c C H locs ls' hR hS (lvh_st2 hl'))
theorem ew_lstore {i : Nat} {x : Int64} (hd : decode cc pc = .ok (.lstore i, 2)) (hn : i + 1 < nL) (hL : st2 L i (.long x) = L') (hp : pc + 2 = t) (kk : EW l G y cc nL ret fr mc ms Q k sl h n t L' (st)) : EW l G y cc nL ret fr mc ms Q k sl h n pc L (.long x :: st) := by
  subst hp
  subst hL
  intro p e s m args below meth c C H locs ls hR hS hl
  exact lv_lstore C.1.1 C.1.2.1 hd hl.has hn rfl (fun ls' hl' => kk p e s m args below meth c C H locs ls' hR hS (lvh_st2 hl'))
theorem ew_astore_n {j : Fin 4} {i : Nat} {x : Nat} (hd : decode cc pc = .ok (.astore_n j, 1)) (hi : (j : Nat) = i) (hn : i < nL) (hL : st1 L i (.ref x) = L') (hp : pc + 1 = t) (kk : EW l G y cc nL ret fr mc ms Q k sl h n t L' (st)) : EW l G y cc nL ret fr mc ms Q k sl h n pc L (.ref x :: st) := by
  subst hp
  subst hL
  intro p e s m args below meth c C H locs ls hR hS hl
  exact lv_astore_n C.1.1 C.1.2.1 hd hi hl.has hn rfl (fun ls' hl' => kk p e s m args below meth c C H locs ls' hR hS (lvh_st1 hl'))
theorem ew_astore {i : Nat} {x : Nat} (hd : decode cc pc = .ok (.astore i, 2)) (hn : i < nL) (hL : st1 L i (.ref x) = L') (hp : pc + 2 = t) (kk : EW l G y cc nL ret fr mc ms Q k sl h n t L' (st)) : EW l G y cc nL ret fr mc ms Q k sl h n pc L (.ref x :: st) := by
  subst hp
  subst hL
  intro p e s m args below meth c C H locs ls hR hS hl
  exact lv_astore C.1.1 C.1.2.1 hd hl.has hn rfl (fun ls' hl' => kk p e s m args below meth c C H locs ls' hR hS (lvh_st1 hl'))
theorem ew_astore_nN {j : Fin 4} {i : Nat} (hd : decode cc pc = .ok (.astore_n j, 1)) (hi : (j : Nat) = i) (hn : i < nL) (hL : st1 L i (.null) = L') (hp : pc + 1 = t) (kk : EW l G y cc nL ret fr mc ms Q k sl h n t L' (st)) : EW l G y cc nL ret fr mc ms Q k sl h n pc L (.null :: st) := by
  subst hp
  subst hL
  intro p e s m args below meth c C H locs ls hR hS hl
  exact lv_astore_nN C.1.1 C.1.2.1 hd hi hl.has hn rfl (fun ls' hl' => kk p e s m args below meth c C H locs ls' hR hS (lvh_st1 hl'))
theorem ew_astoreN {i : Nat} (hd : decode cc pc = .ok (.astore i, 2)) (hn : i < nL) (hL : st1 L i (.null) = L') (hp : pc + 2 = t) (kk : EW l G y cc nL ret fr mc ms Q k sl h n t L' (st)) : EW l G y cc nL ret fr mc ms Q k sl h n pc L (.null :: st) := by
  subst hp
  subst hL
  intro p e s m args below meth c C H locs ls hR hS hl
  exact lv_astoreN C.1.1 C.1.2.1 hd hl.has hn rfl (fun ls' hl' => kk p e s m args below meth c C H locs ls' hR hS (lvh_st1 hl'))
theorem ew_iinc {i : Nat} {z : Int} {x v : Int32} (hd : decode cc pc = .ok (.iinc i z, 3)) (hx : L[i]? = some (some (.int x))) (hv : x + Int32.ofInt z = v) (hn : i < nL) (hL : st1 L i (.int v) = L') (hp : pc + 3 = t) (kk : EW l G y cc nL ret fr mc ms Q k sl h n t L' (st)) : EW l G y cc nL ret fr mc ms Q k sl h n pc L (st) := by
  subst hp
  subst hL
  intro p e s m args below meth c C H locs ls hR hS hl
  have hm := lvl_of (G := G) L 0 i _ hx
  rw [Nat.zero_add] at hm
  obtain ⟨q, hq⟩ := List.getElem?_of_mem hm
  exact lv_iinc (k := q) C.1.1 C.1.2.1 hd hl.has hq hv hn rfl (fun ls' hl' => kk p e s m args below meth c C H locs ls' hR hS (lvh_st1 hl'))
theorem ew_iadd {a b : Int32} (hd : decode cc pc = .ok (.iadd, 1)) (hp : pc + 1 = t) (kk : EW l G y cc nL ret fr mc ms Q k sl h n t L (.int (a + b) :: st)) : EW l G y cc nL ret fr mc ms Q k sl h n pc L (.int b :: .int a :: st) := by
  subst hp
  intro p e s m args below meth c C H locs ls hR hS hl
  exact lv_iadd C.1.1 C.1.2.1 hd (kk p e s m args below meth c C H locs ls hR hS hl)
theorem ew_isub {a b : Int32} (hd : decode cc pc = .ok (.isub, 1)) (hp : pc + 1 = t) (kk : EW l G y cc nL ret fr mc ms Q k sl h n t L (.int (a - b) :: st)) : EW l G y cc nL ret fr mc ms Q k sl h n pc L (.int b :: .int a :: st) := by
  subst hp
  intro p e s m args below meth c C H locs ls hR hS hl
  exact lv_isub C.1.1 C.1.2.1 hd (kk p e s m args below meth c C H locs ls hR hS hl)
theorem ew_imul {a b : Int32} (hd : decode cc pc = .ok (.imul, 1)) (hp : pc + 1 = t) (kk : EW l G y cc nL ret fr mc ms Q k sl h n t L (.int (a * b) :: st)) : EW l G y cc nL ret fr mc ms Q k sl h n pc L (.int b :: .int a :: st) := by
  subst hp
  intro p e s m args below meth c C H locs ls hR hS hl
  exact lv_imul C.1.1 C.1.2.1 hd (kk p e s m args below meth c C H locs ls hR hS hl)
theorem ew_iand {a b : Int32} (hd : decode cc pc = .ok (.iand, 1)) (hp : pc + 1 = t) (kk : EW l G y cc nL ret fr mc ms Q k sl h n t L (.int (a &&& b) :: st)) : EW l G y cc nL ret fr mc ms Q k sl h n pc L (.int b :: .int a :: st) := by
  subst hp
  intro p e s m args below meth c C H locs ls hR hS hl
  exact lv_iand C.1.1 C.1.2.1 hd (kk p e s m args below meth c C H locs ls hR hS hl)
theorem ew_ior {a b : Int32} (hd : decode cc pc = .ok (.ior, 1)) (hp : pc + 1 = t) (kk : EW l G y cc nL ret fr mc ms Q k sl h n t L (.int (a ||| b) :: st)) : EW l G y cc nL ret fr mc ms Q k sl h n pc L (.int b :: .int a :: st) := by
  subst hp
  intro p e s m args below meth c C H locs ls hR hS hl
  exact lv_ior C.1.1 C.1.2.1 hd (kk p e s m args below meth c C H locs ls hR hS hl)
theorem ew_ixor {a b : Int32} (hd : decode cc pc = .ok (.ixor, 1)) (hp : pc + 1 = t) (kk : EW l G y cc nL ret fr mc ms Q k sl h n t L (.int (a ^^^ b) :: st)) : EW l G y cc nL ret fr mc ms Q k sl h n pc L (.int b :: .int a :: st) := by
  subst hp
  intro p e s m args below meth c C H locs ls hR hS hl
  exact lv_ixor C.1.1 C.1.2.1 hd (kk p e s m args below meth c C H locs ls hR hS hl)
theorem ew_ishl {a b : Int32} (hd : decode cc pc = .ok (.ishl, 1)) (hp : pc + 1 = t) (kk : EW l G y cc nL ret fr mc ms Q k sl h n t L (.int (a <<< (b &&& 31)) :: st)) : EW l G y cc nL ret fr mc ms Q k sl h n pc L (.int b :: .int a :: st) := by
  subst hp
  intro p e s m args below meth c C H locs ls hR hS hl
  exact lv_ishl C.1.1 C.1.2.1 hd (kk p e s m args below meth c C H locs ls hR hS hl)
theorem ew_ishr {a b : Int32} (hd : decode cc pc = .ok (.ishr, 1)) (hp : pc + 1 = t) (kk : EW l G y cc nL ret fr mc ms Q k sl h n t L (.int (a >>> (b &&& 31)) :: st)) : EW l G y cc nL ret fr mc ms Q k sl h n pc L (.int b :: .int a :: st) := by
  subst hp
  intro p e s m args below meth c C H locs ls hR hS hl
  exact lv_ishr C.1.1 C.1.2.1 hd (kk p e s m args below meth c C H locs ls hR hS hl)
theorem ew_idiv {a b : Int32} (hd : decode cc pc = .ok (.idiv, 1)) (hne : ¬ b = 0) (hp : pc + 1 = t) (kk : EW l G y cc nL ret fr mc ms Q k sl h n t L (.int (a / b) :: st)) : EW l G y cc nL ret fr mc ms Q k sl h n pc L (.int b :: .int a :: st) := by
  subst hp
  intro p e s m args below meth c C H locs ls hR hS hl
  exact lv_idiv C.1.1 C.1.2.1 hd hne (kk p e s m args below meth c C H locs ls hR hS hl)
theorem ew_irem {a b : Int32} (hd : decode cc pc = .ok (.irem, 1)) (hne : ¬ b = 0) (hp : pc + 1 = t) (kk : EW l G y cc nL ret fr mc ms Q k sl h n t L (.int (a - a / b * b) :: st)) : EW l G y cc nL ret fr mc ms Q k sl h n pc L (.int b :: .int a :: st) := by
  subst hp
  intro p e s m args below meth c C H locs ls hR hS hl
  exact lv_irem C.1.1 C.1.2.1 hd hne (kk p e s m args below meth c C H locs ls hR hS hl)
theorem ew_ineg {a : Int32} (hd : decode cc pc = .ok (.ineg, 1)) (hp : pc + 1 = t) (kk : EW l G y cc nL ret fr mc ms Q k sl h n t L (.int (-a) :: st)) : EW l G y cc nL ret fr mc ms Q k sl h n pc L (.int a :: st) := by
  subst hp
  intro p e s m args below meth c C H locs ls hR hS hl
  exact lv_ineg C.1.1 C.1.2.1 hd (kk p e s m args below meth c C H locs ls hR hS hl)
theorem ew_ladd {a b : Int64} (hd : decode cc pc = .ok (.ladd, 1)) (hp : pc + 1 = t) (kk : EW l G y cc nL ret fr mc ms Q k sl h n t L (.long (a + b) :: st)) : EW l G y cc nL ret fr mc ms Q k sl h n pc L (.long b :: .long a :: st) := by
  subst hp
  intro p e s m args below meth c C H locs ls hR hS hl
  exact lv_ladd C.1.1 C.1.2.1 hd (kk p e s m args below meth c C H locs ls hR hS hl)
theorem ew_lsub {a b : Int64} (hd : decode cc pc = .ok (.lsub, 1)) (hp : pc + 1 = t) (kk : EW l G y cc nL ret fr mc ms Q k sl h n t L (.long (a - b) :: st)) : EW l G y cc nL ret fr mc ms Q k sl h n pc L (.long b :: .long a :: st) := by
  subst hp
  intro p e s m args below meth c C H locs ls hR hS hl
  exact lv_lsub C.1.1 C.1.2.1 hd (kk p e s m args below meth c C H locs ls hR hS hl)
theorem ew_lmul {a b : Int64} (hd : decode cc pc = .ok (.lmul, 1)) (hp : pc + 1 = t) (kk : EW l G y cc nL ret fr mc ms Q k sl h n t L (.long (a * b) :: st)) : EW l G y cc nL ret fr mc ms Q k sl h n pc L (.long b :: .long a :: st) := by
  subst hp
  intro p e s m args below meth c C H locs ls hR hS hl
  exact lv_lmul C.1.1 C.1.2.1 hd (kk p e s m args below meth c C H locs ls hR hS hl)
theorem ew_land {a b : Int64} (hd : decode cc pc = .ok (.land, 1)) (hp : pc + 1 = t) (kk : EW l G y cc nL ret fr mc ms Q k sl h n t L (.long (a &&& b) :: st)) : EW l G y cc nL ret fr mc ms Q k sl h n pc L (.long b :: .long a :: st) := by
  subst hp
  intro p e s m args below meth c C H locs ls hR hS hl
  exact lv_land C.1.1 C.1.2.1 hd (kk p e s m args below meth c C H locs ls hR hS hl)
theorem ew_lor {a b : Int64} (hd : decode cc pc = .ok (.lor, 1)) (hp : pc + 1 = t) (kk : EW l G y cc nL ret fr mc ms Q k sl h n t L (.long (a ||| b) :: st)) : EW l G y cc nL ret fr mc ms Q k sl h n pc L (.long b :: .long a :: st) := by
  subst hp
  intro p e s m args below meth c C H locs ls hR hS hl
  exact lv_lor C.1.1 C.1.2.1 hd (kk p e s m args below meth c C H locs ls hR hS hl)
theorem ew_lxor {a b : Int64} (hd : decode cc pc = .ok (.lxor, 1)) (hp : pc + 1 = t) (kk : EW l G y cc nL ret fr mc ms Q k sl h n t L (.long (a ^^^ b) :: st)) : EW l G y cc nL ret fr mc ms Q k sl h n pc L (.long b :: .long a :: st) := by
  subst hp
  intro p e s m args below meth c C H locs ls hR hS hl
  exact lv_lxor C.1.1 C.1.2.1 hd (kk p e s m args below meth c C H locs ls hR hS hl)
theorem ew_ldiv {a b : Int64} (hd : decode cc pc = .ok (.ldiv, 1)) (hne : ¬ b = 0) (hp : pc + 1 = t) (kk : EW l G y cc nL ret fr mc ms Q k sl h n t L (.long (a / b) :: st)) : EW l G y cc nL ret fr mc ms Q k sl h n pc L (.long b :: .long a :: st) := by
  subst hp
  intro p e s m args below meth c C H locs ls hR hS hl
  exact lv_ldiv C.1.1 C.1.2.1 hd hne (kk p e s m args below meth c C H locs ls hR hS hl)
theorem ew_lrem {a b : Int64} (hd : decode cc pc = .ok (.lrem, 1)) (hne : ¬ b = 0) (hp : pc + 1 = t) (kk : EW l G y cc nL ret fr mc ms Q k sl h n t L (.long (a - a / b * b) :: st)) : EW l G y cc nL ret fr mc ms Q k sl h n pc L (.long b :: .long a :: st) := by
  subst hp
  intro p e s m args below meth c C H locs ls hR hS hl
  exact lv_lrem C.1.1 C.1.2.1 hd hne (kk p e s m args below meth c C H locs ls hR hS hl)
theorem ew_lneg {a : Int64} (hd : decode cc pc = .ok (.lneg, 1)) (hp : pc + 1 = t) (kk : EW l G y cc nL ret fr mc ms Q k sl h n t L (.long (-a) :: st)) : EW l G y cc nL ret fr mc ms Q k sl h n pc L (.long a :: st) := by
  subst hp
  intro p e s m args below meth c C H locs ls hR hS hl
  exact lv_lneg C.1.1 C.1.2.1 hd (kk p e s m args below meth c C H locs ls hR hS hl)
theorem ew_lshl {a : Int64} {b : Int32} (hd : decode cc pc = .ok (.lshl, 1)) (hp : pc + 1 = t) (kk : EW l G y cc nL ret fr mc ms Q k sl h n t L (.long (a <<< (b.toInt64 &&& 63)) :: st)) : EW l G y cc nL ret fr mc ms Q k sl h n pc L (.int b :: .long a :: st) := by
  subst hp
  intro p e s m args below meth c C H locs ls hR hS hl
  exact lv_lshl C.1.1 C.1.2.1 hd rfl (kk p e s m args below meth c C H locs ls hR hS hl)
theorem ew_lshr {a : Int64} {b : Int32} (hd : decode cc pc = .ok (.lshr, 1)) (hp : pc + 1 = t) (kk : EW l G y cc nL ret fr mc ms Q k sl h n t L (.long (a >>> (b.toInt64 &&& 63)) :: st)) : EW l G y cc nL ret fr mc ms Q k sl h n pc L (.int b :: .long a :: st) := by
  subst hp
  intro p e s m args below meth c C H locs ls hR hS hl
  exact lv_lshr C.1.1 C.1.2.1 hd rfl (kk p e s m args below meth c C H locs ls hR hS hl)
theorem ew_i2l {a : Int32} (hd : decode cc pc = .ok (.i2l, 1)) (hp : pc + 1 = t) (kk : EW l G y cc nL ret fr mc ms Q k sl h n t L (.long a.toInt64 :: st)) : EW l G y cc nL ret fr mc ms Q k sl h n pc L (.int a :: st) := by
  subst hp
  intro p e s m args below meth c C H locs ls hR hS hl
  exact lv_i2l C.1.1 C.1.2.1 hd rfl (kk p e s m args below meth c C H locs ls hR hS hl)
theorem ew_l2i {a : Int64} (hd : decode cc pc = .ok (.l2i, 1)) (hp : pc + 1 = t) (kk : EW l G y cc nL ret fr mc ms Q k sl h n t L (.int a.toInt32 :: st)) : EW l G y cc nL ret fr mc ms Q k sl h n pc L (.long a :: st) := by
  subst hp
  intro p e s m args below meth c C H locs ls hR hS hl
  exact lv_l2i C.1.1 C.1.2.1 hd rfl (kk p e s m args below meth c C H locs ls hR hS hl)
theorem ew_i2b {a : Int32} (hd : decode cc pc = .ok (.i2b, 1)) (hp : pc + 1 = t) (kk : EW l G y cc nL ret fr mc ms Q k sl h n t L (.int a.toInt8.toInt32 :: st)) : EW l G y cc nL ret fr mc ms Q k sl h n pc L (.int a :: st) := by
  subst hp
  intro p e s m args below meth c C H locs ls hR hS hl
  exact lv_i2b C.1.1 C.1.2.1 hd rfl (kk p e s m args below meth c C H locs ls hR hS hl)
theorem ew_i2s {a : Int32} (hd : decode cc pc = .ok (.i2s, 1)) (hp : pc + 1 = t) (kk : EW l G y cc nL ret fr mc ms Q k sl h n t L (.int a.toInt16.toInt32 :: st)) : EW l G y cc nL ret fr mc ms Q k sl h n pc L (.int a :: st) := by
  subst hp
  intro p e s m args below meth c C H locs ls hR hS hl
  exact lv_i2s C.1.1 C.1.2.1 hd rfl (kk p e s m args below meth c C H locs ls hR hS hl)
theorem ew_dup {v : Value} (hd : decode cc pc = .ok (.dup, 1)) (hv : v.category = 1) (hp : pc + 1 = t) (kk : EW l G y cc nL ret fr mc ms Q k sl h n t L (v :: v :: st)) : EW l G y cc nL ret fr mc ms Q k sl h n pc L (v :: st) := by
  subst hp
  intro p e s m args below meth c C H locs ls hR hS hl
  exact lv_dup C.1.1 C.1.2.1 hd (by rw [shv_cat]; exact hv) (kk p e s m args below meth c C H locs ls hR hS hl)
theorem ew_pop {v : Value} (hd : decode cc pc = .ok (.pop, 1)) (hv : v.category = 1) (hp : pc + 1 = t) (kk : EW l G y cc nL ret fr mc ms Q k sl h n t L (st)) : EW l G y cc nL ret fr mc ms Q k sl h n pc L (v :: st) := by
  subst hp
  intro p e s m args below meth c C H locs ls hR hS hl
  exact lv_pop C.1.1 C.1.2.1 hd (by rw [shv_cat]; exact hv) (kk p e s m args below meth c C H locs ls hR hS hl)
theorem ew_pop2 {v : Value} (hd : decode cc pc = .ok (.pop2, 1)) (hv : v.category = 2) (hp : pc + 1 = t) (kk : EW l G y cc nL ret fr mc ms Q k sl h n t L (st)) : EW l G y cc nL ret fr mc ms Q k sl h n pc L (v :: st) := by
  subst hp
  intro p e s m args below meth c C H locs ls hR hS hl
  exact lv_pop2_2 C.1.1 C.1.2.1 hd (by rw [shv_cat]; exact hv) (kk p e s m args below meth c C H locs ls hR hS hl)
theorem ew_dup2 {v w : Value} (hd : decode cc pc = .ok (.dup2, 1)) (hv : v.category = 1) (hw : w.category = 1) (hp : pc + 1 = t) (kk : EW l G y cc nL ret fr mc ms Q k sl h n t L (v :: w :: v :: w :: st)) : EW l G y cc nL ret fr mc ms Q k sl h n pc L (v :: w :: st) := by
  subst hp
  intro p e s m args below meth c C H locs ls hR hS hl
  exact lv_dup2_11 C.1.1 C.1.2.1 hd (by rw [shv_cat]; exact hv) (by rw [shv_cat]; exact hw) (kk p e s m args below meth c C H locs ls hR hS hl)
theorem ew_goto {off : Int} (hd : decode cc pc = .ok (.goto off, 3)) (ht : (pc : Int) + off = (t : Int)) (kk : EW l G y cc nL ret fr mc ms Q k sl h n t L (st)) : EW l G y cc nL ret fr mc ms Q k sl h n pc L (st) := by
  intro p e s m args below meth c C H locs ls hR hS hl
  exact lv_goto C.1.1 C.1.2.1 hd ht (kk p e s m args below meth c C H locs ls hR hS hl)
theorem ew_if_eq {x : Int32} {off : Int} {t2 : Nat} (hd : decode cc pc = .ok (.ifCond .eq off, 3)) (ht : (pc : Int) + off = (t : Int)) (hp : pc + 3 = t2) (kt : x = 0 → EW l G y cc nL ret fr mc ms Q k sl h n t L (st)) (kf : ¬ x = 0 → EW l G y cc nL ret fr mc ms Q k sl h n t2 L (st)) : EW l G y cc nL ret fr mc ms Q k sl h n pc L (.int x :: st) := by
  subst hp
  intro p e s m args below meth c C H locs ls hR hS hl
  exact lv_if_eq C.1.1 C.1.2.1 hd ht (fun q => kt q p e s m args below meth c C H locs ls hR hS hl) (fun q => kf q p e s m args below meth c C H locs ls hR hS hl)
theorem ew_icmp_eq {a b : Int32} {off : Int} {t2 : Nat} (hd : decode cc pc = .ok (.if_icmp .eq off, 3)) (ht : (pc : Int) + off = (t : Int)) (hp : pc + 3 = t2) (kt : a = b → EW l G y cc nL ret fr mc ms Q k sl h n t L (st)) (kf : ¬ a = b → EW l G y cc nL ret fr mc ms Q k sl h n t2 L (st)) : EW l G y cc nL ret fr mc ms Q k sl h n pc L (.int b :: .int a :: st) := by
  subst hp
  intro p e s m args below meth c C H locs ls hR hS hl
  exact lv_icmp_eq C.1.1 C.1.2.1 hd ht (fun q => kt q p e s m args below meth c C H locs ls hR hS hl) (fun q => kf q p e s m args below meth c C H locs ls hR hS hl)
theorem ew_if_ne {x : Int32} {off : Int} {t2 : Nat} (hd : decode cc pc = .ok (.ifCond .ne off, 3)) (ht : (pc : Int) + off = (t : Int)) (hp : pc + 3 = t2) (kt : ¬ x = 0 → EW l G y cc nL ret fr mc ms Q k sl h n t L (st)) (kf : x = 0 → EW l G y cc nL ret fr mc ms Q k sl h n t2 L (st)) : EW l G y cc nL ret fr mc ms Q k sl h n pc L (.int x :: st) := by
  subst hp
  intro p e s m args below meth c C H locs ls hR hS hl
  exact lv_if_ne C.1.1 C.1.2.1 hd ht (fun q => kt q p e s m args below meth c C H locs ls hR hS hl) (fun q => kf q p e s m args below meth c C H locs ls hR hS hl)
theorem ew_icmp_ne {a b : Int32} {off : Int} {t2 : Nat} (hd : decode cc pc = .ok (.if_icmp .ne off, 3)) (ht : (pc : Int) + off = (t : Int)) (hp : pc + 3 = t2) (kt : ¬ a = b → EW l G y cc nL ret fr mc ms Q k sl h n t L (st)) (kf : a = b → EW l G y cc nL ret fr mc ms Q k sl h n t2 L (st)) : EW l G y cc nL ret fr mc ms Q k sl h n pc L (.int b :: .int a :: st) := by
  subst hp
  intro p e s m args below meth c C H locs ls hR hS hl
  exact lv_icmp_ne C.1.1 C.1.2.1 hd ht (fun q => kt q p e s m args below meth c C H locs ls hR hS hl) (fun q => kf q p e s m args below meth c C H locs ls hR hS hl)
theorem ew_if_lt {x : Int32} {off : Int} {t2 : Nat} (hd : decode cc pc = .ok (.ifCond .lt off, 3)) (ht : (pc : Int) + off = (t : Int)) (hp : pc + 3 = t2) (kt : x < 0 → EW l G y cc nL ret fr mc ms Q k sl h n t L (st)) (kf : ¬ x < 0 → EW l G y cc nL ret fr mc ms Q k sl h n t2 L (st)) : EW l G y cc nL ret fr mc ms Q k sl h n pc L (.int x :: st) := by
  subst hp
  intro p e s m args below meth c C H locs ls hR hS hl
  exact lv_if_lt C.1.1 C.1.2.1 hd ht (fun q => kt q p e s m args below meth c C H locs ls hR hS hl) (fun q => kf q p e s m args below meth c C H locs ls hR hS hl)
theorem ew_icmp_lt {a b : Int32} {off : Int} {t2 : Nat} (hd : decode cc pc = .ok (.if_icmp .lt off, 3)) (ht : (pc : Int) + off = (t : Int)) (hp : pc + 3 = t2) (kt : a < b → EW l G y cc nL ret fr mc ms Q k sl h n t L (st)) (kf : ¬ a < b → EW l G y cc nL ret fr mc ms Q k sl h n t2 L (st)) : EW l G y cc nL ret fr mc ms Q k sl h n pc L (.int b :: .int a :: st) := by
  subst hp
  intro p e s m args below meth c C H locs ls hR hS hl
  exact lv_icmp_lt C.1.1 C.1.2.1 hd ht (fun q => kt q p e s m args below meth c C H locs ls hR hS hl) (fun q => kf q p e s m args below meth c C H locs ls hR hS hl)
theorem ew_if_ge {x : Int32} {off : Int} {t2 : Nat} (hd : decode cc pc = .ok (.ifCond .ge off, 3)) (ht : (pc : Int) + off = (t : Int)) (hp : pc + 3 = t2) (kt : 0 ≤ x → EW l G y cc nL ret fr mc ms Q k sl h n t L (st)) (kf : ¬ 0 ≤ x → EW l G y cc nL ret fr mc ms Q k sl h n t2 L (st)) : EW l G y cc nL ret fr mc ms Q k sl h n pc L (.int x :: st) := by
  subst hp
  intro p e s m args below meth c C H locs ls hR hS hl
  exact lv_if_ge C.1.1 C.1.2.1 hd ht (fun q => kt q p e s m args below meth c C H locs ls hR hS hl) (fun q => kf q p e s m args below meth c C H locs ls hR hS hl)
theorem ew_icmp_ge {a b : Int32} {off : Int} {t2 : Nat} (hd : decode cc pc = .ok (.if_icmp .ge off, 3)) (ht : (pc : Int) + off = (t : Int)) (hp : pc + 3 = t2) (kt : b ≤ a → EW l G y cc nL ret fr mc ms Q k sl h n t L (st)) (kf : ¬ b ≤ a → EW l G y cc nL ret fr mc ms Q k sl h n t2 L (st)) : EW l G y cc nL ret fr mc ms Q k sl h n pc L (.int b :: .int a :: st) := by
  subst hp
  intro p e s m args below meth c C H locs ls hR hS hl
  exact lv_icmp_ge C.1.1 C.1.2.1 hd ht (fun q => kt q p e s m args below meth c C H locs ls hR hS hl) (fun q => kf q p e s m args below meth c C H locs ls hR hS hl)
theorem ew_if_gt {x : Int32} {off : Int} {t2 : Nat} (hd : decode cc pc = .ok (.ifCond .gt off, 3)) (ht : (pc : Int) + off = (t : Int)) (hp : pc + 3 = t2) (kt : 0 < x → EW l G y cc nL ret fr mc ms Q k sl h n t L (st)) (kf : ¬ 0 < x → EW l G y cc nL ret fr mc ms Q k sl h n t2 L (st)) : EW l G y cc nL ret fr mc ms Q k sl h n pc L (.int x :: st) := by
  subst hp
  intro p e s m args below meth c C H locs ls hR hS hl
  exact lv_if_gt C.1.1 C.1.2.1 hd ht (fun q => kt q p e s m args below meth c C H locs ls hR hS hl) (fun q => kf q p e s m args below meth c C H locs ls hR hS hl)
theorem ew_icmp_gt {a b : Int32} {off : Int} {t2 : Nat} (hd : decode cc pc = .ok (.if_icmp .gt off, 3)) (ht : (pc : Int) + off = (t : Int)) (hp : pc + 3 = t2) (kt : b < a → EW l G y cc nL ret fr mc ms Q k sl h n t L (st)) (kf : ¬ b < a → EW l G y cc nL ret fr mc ms Q k sl h n t2 L (st)) : EW l G y cc nL ret fr mc ms Q k sl h n pc L (.int b :: .int a :: st) := by
  subst hp
  intro p e s m args below meth c C H locs ls hR hS hl
  exact lv_icmp_gt C.1.1 C.1.2.1 hd ht (fun q => kt q p e s m args below meth c C H locs ls hR hS hl) (fun q => kf q p e s m args below meth c C H locs ls hR hS hl)
theorem ew_if_le {x : Int32} {off : Int} {t2 : Nat} (hd : decode cc pc = .ok (.ifCond .le off, 3)) (ht : (pc : Int) + off = (t : Int)) (hp : pc + 3 = t2) (kt : x ≤ 0 → EW l G y cc nL ret fr mc ms Q k sl h n t L (st)) (kf : ¬ x ≤ 0 → EW l G y cc nL ret fr mc ms Q k sl h n t2 L (st)) : EW l G y cc nL ret fr mc ms Q k sl h n pc L (.int x :: st) := by
  subst hp
  intro p e s m args below meth c C H locs ls hR hS hl
  exact lv_if_le C.1.1 C.1.2.1 hd ht (fun q => kt q p e s m args below meth c C H locs ls hR hS hl) (fun q => kf q p e s m args below meth c C H locs ls hR hS hl)
theorem ew_icmp_le {a b : Int32} {off : Int} {t2 : Nat} (hd : decode cc pc = .ok (.if_icmp .le off, 3)) (ht : (pc : Int) + off = (t : Int)) (hp : pc + 3 = t2) (kt : a ≤ b → EW l G y cc nL ret fr mc ms Q k sl h n t L (st)) (kf : ¬ a ≤ b → EW l G y cc nL ret fr mc ms Q k sl h n t2 L (st)) : EW l G y cc nL ret fr mc ms Q k sl h n pc L (.int b :: .int a :: st) := by
  subst hp
  intro p e s m args below meth c C H locs ls hR hS hl
  exact lv_icmp_le C.1.1 C.1.2.1 hd ht (fun q => kt q p e s m args below meth c C H locs ls hR hS hl) (fun q => kf q p e s m args below meth c C H locs ls hR hS hl)
theorem ew_lcmp_eq {a b : Int64} {off : Int} {t1 t2 : Nat} (hd : decode cc pc = .ok (.lcmp, 1)) (h1 : pc + 1 = t1) (hd2 : decode cc t1 = .ok (.ifCond .eq off, 3)) (ht : (t1 : Int) + off = (t : Int)) (hp : t1 + 3 = t2) (kt : a = b → EW l G y cc nL ret fr mc ms Q k sl h n t L (st)) (kf : ¬ a = b → EW l G y cc nL ret fr mc ms Q k sl h n t2 L (st)) : EW l G y cc nL ret fr mc ms Q k sl h n pc L (.long b :: .long a :: st) := by
  subst h1
  subst hp
  intro p e s m args below meth c C H locs ls hR hS hl
  refine W.lcmp C.1.1 C.1.2.1 hd ?_
  exact lv_if_eq C.1.1 C.1.2.1 hd2 ht (fun q => kt ((lg_cmp_eq a b).mp q) p e s m args below meth c C H locs ls hR hS hl) (fun q => kf ((not_congr (lg_cmp_eq a b)).mp q) p e s m args below meth c C H locs ls hR hS hl)
theorem ew_lcmp_ne {a b : Int64} {off : Int} {t1 t2 : Nat} (hd : decode cc pc = .ok (.lcmp, 1)) (h1 : pc + 1 = t1) (hd2 : decode cc t1 = .ok (.ifCond .ne off, 3)) (ht : (t1 : Int) + off = (t : Int)) (hp : t1 + 3 = t2) (kt : ¬ a = b → EW l G y cc nL ret fr mc ms Q k sl h n t L (st)) (kf : a = b → EW l G y cc nL ret fr mc ms Q k sl h n t2 L (st)) : EW l G y cc nL ret fr mc ms Q k sl h n pc L (.long b :: .long a :: st) := by
  subst h1
  subst hp
  intro p e s m args below meth c C H locs ls hR hS hl
  refine W.lcmp C.1.1 C.1.2.1 hd ?_
  exact lv_if_ne C.1.1 C.1.2.1 hd2 ht (fun q => kt ((not_congr (lg_cmp_eq a b)).mp q) p e s m args below meth c C H locs ls hR hS hl) (fun q => kf ((lg_cmp_eq a b).mp q) p e s m args below meth c C H locs ls hR hS hl)
theorem ew_lcmp_lt {a b : Int64} {off : Int} {t1 t2 : Nat} (hd : decode cc pc = .ok (.lcmp, 1)) (h1 : pc + 1 = t1) (hd2 : decode cc t1 = .ok (.ifCond .lt off, 3)) (ht : (t1 : Int) + off = (t : Int)) (hp : t1 + 3 = t2) (kt : a < b → EW l G y cc nL ret fr mc ms Q k sl h n t L (st)) (kf : ¬ a < b → EW l G y cc nL ret fr mc ms Q k sl h n t2 L (st)) : EW l G y cc nL ret fr mc ms Q k sl h n pc L (.long b :: .long a :: st) := by
  subst h1
  subst hp
  intro p e s m args below meth c C H locs ls hR hS hl
  refine W.lcmp C.1.1 C.1.2.1 hd ?_
  exact lv_if_lt C.1.1 C.1.2.1 hd2 ht (fun q => kt ((lg_cmp_lt a b).mp q) p e s m args below meth c C H locs ls hR hS hl) (fun q => kf ((not_congr (lg_cmp_lt a b)).mp q) p e s m args below meth c C H locs ls hR hS hl)
theorem ew_lcmp_ge {a b : Int64} {off : Int} {t1 t2 : Nat} (hd : decode cc pc = .ok (.lcmp, 1)) (h1 : pc + 1 = t1) (hd2 : decode cc t1 = .ok (.ifCond .ge off, 3)) (ht : (t1 : Int) + off = (t : Int)) (hp : t1 + 3 = t2) (kt : b ≤ a → EW l G y cc nL ret fr mc ms Q k sl h n t L (st)) (kf : ¬ b ≤ a → EW l G y cc nL ret fr mc ms Q k sl h n t2 L (st)) : EW l G y cc nL ret fr mc ms Q k sl h n pc L (.long b :: .long a :: st) := by
  subst h1
  subst hp
  intro p e s m args below meth c C H locs ls hR hS hl
  refine W.lcmp C.1.1 C.1.2.1 hd ?_
  exact lv_if_ge C.1.1 C.1.2.1 hd2 ht (fun q => kt ((lg_cmp_ge a b).mp q) p e s m args below meth c C H locs ls hR hS hl) (fun q => kf ((not_congr (lg_cmp_ge a b)).mp q) p e s m args below meth c C H locs ls hR hS hl)
theorem ew_lcmp_gt {a b : Int64} {off : Int} {t1 t2 : Nat} (hd : decode cc pc = .ok (.lcmp, 1)) (h1 : pc + 1 = t1) (hd2 : decode cc t1 = .ok (.ifCond .gt off, 3)) (ht : (t1 : Int) + off = (t : Int)) (hp : t1 + 3 = t2) (kt : b < a → EW l G y cc nL ret fr mc ms Q k sl h n t L (st)) (kf : ¬ b < a → EW l G y cc nL ret fr mc ms Q k sl h n t2 L (st)) : EW l G y cc nL ret fr mc ms Q k sl h n pc L (.long b :: .long a :: st) := by
  subst h1
  subst hp
  intro p e s m args below meth c C H locs ls hR hS hl
  refine W.lcmp C.1.1 C.1.2.1 hd ?_
  exact lv_if_gt C.1.1 C.1.2.1 hd2 ht (fun q => kt ((lg_cmp_gt a b).mp q) p e s m args below meth c C H locs ls hR hS hl) (fun q => kf ((not_congr (lg_cmp_gt a b)).mp q) p e s m args below meth c C H locs ls hR hS hl)
theorem ew_lcmp_le {a b : Int64} {off : Int} {t1 t2 : Nat} (hd : decode cc pc = .ok (.lcmp, 1)) (h1 : pc + 1 = t1) (hd2 : decode cc t1 = .ok (.ifCond .le off, 3)) (ht : (t1 : Int) + off = (t : Int)) (hp : t1 + 3 = t2) (kt : a ≤ b → EW l G y cc nL ret fr mc ms Q k sl h n t L (st)) (kf : ¬ a ≤ b → EW l G y cc nL ret fr mc ms Q k sl h n t2 L (st)) : EW l G y cc nL ret fr mc ms Q k sl h n pc L (.long b :: .long a :: st) := by
  subst h1
  subst hp
  intro p e s m args below meth c C H locs ls hR hS hl
  refine W.lcmp C.1.1 C.1.2.1 hd ?_
  exact lv_if_le C.1.1 C.1.2.1 hd2 ht (fun q => kt ((lg_cmp_le a b).mp q) p e s m args below meth c C H locs ls hR hS hl) (fun q => kf ((not_congr (lg_cmp_le a b)).mp q) p e s m args below meth c C H locs ls hR hS hl)
theorem ew_ifnull {a : Nat} {off : Int} (hd : decode cc pc = .ok (.ifnull off, 3)) (hp : pc + 3 = t) (kk : EW l G y cc nL ret fr mc ms Q k sl h n t L (st)) : EW l G y cc nL ret fr mc ms Q k sl h n pc L (.ref a :: st) := by
  subst hp
  intro p e s m args below meth c C H locs ls hR hS hl
  exact lv_ifnull C.1.1 C.1.2.1 hd (kk p e s m args below meth c C H locs ls hR hS hl)
theorem ew_ifnullN {off : Int} (hd : decode cc pc = .ok (.ifnull off, 3)) (ht : (pc : Int) + off = (t : Int)) (kk : EW l G y cc nL ret fr mc ms Q k sl h n t L (st)) : EW l G y cc nL ret fr mc ms Q k sl h n pc L (.null :: st) := by
  intro p e s m args below meth c C H locs ls hR hS hl
  exact lv_ifnullN C.1.1 C.1.2.1 hd ht (kk p e s m args below meth c C H locs ls hR hS hl)
theorem ew_ifnonnull {a : Nat} {off : Int} (hd : decode cc pc = .ok (.ifnonnull off, 3)) (ht : (pc : Int) + off = (t : Int)) (kk : EW l G y cc nL ret fr mc ms Q k sl h n t L (st)) : EW l G y cc nL ret fr mc ms Q k sl h n pc L (.ref a :: st) := by
  intro p e s m args below meth c C H locs ls hR hS hl
  exact lv_ifnonnull C.1.1 C.1.2.1 hd ht (kk p e s m args below meth c C H locs ls hR hS hl)
theorem ew_ifnonnullN {off : Int} (hd : decode cc pc = .ok (.ifnonnull off, 3)) (hp : pc + 3 = t) (kk : EW l G y cc nL ret fr mc ms Q k sl h n t L (st)) : EW l G y cc nL ret fr mc ms Q k sl h n pc L (.null :: st) := by
  subst hp
  intro p e s m args below meth c C H locs ls hR hS hl
  exact lv_ifnonnullN C.1.1 C.1.2.1 hd (kk p e s m args below meth c C H locs ls hR hS hl)
theorem ew_tableOut {d lo hi : Int} {offs : Array Int} {ln : Nat} {x : Int32} (hd : decode cc pc = .ok (.tableswitch d lo hi offs, ln)) (hx : x.toInt < lo ∨ hi < x.toInt) (ht : (pc : Int) + d = (t : Int)) (kk : EW l G y cc nL ret fr mc ms Q k sl h n t L (st)) : EW l G y cc nL ret fr mc ms Q k sl h n pc L (.int x :: st) := by
  intro p e s m args below meth c C H locs ls hR hS hl
  exact lv_tableOut C.1.1 C.1.2.1 hd hx ht (kk p e s m args below meth c C H locs ls hR hS hl)
theorem ew_tableIn {d lo hi : Int} {offs : Array Int} {ln : Nat} {x : Int32} {off : Int} (hd : decode cc pc = .ok (.tableswitch d lo hi offs, ln)) (h1 : ¬ x.toInt < lo) (h2 : ¬ hi < x.toInt) (ho : offs[(x.toInt - lo).toNat]? = some off) (ht : (pc : Int) + off = (t : Int)) (kk : EW l G y cc nL ret fr mc ms Q k sl h n t L (st)) : EW l G y cc nL ret fr mc ms Q k sl h n pc L (.int x :: st) := by
  intro p e s m args below meth c C H locs ls hR hS hl
  exact lv_tableIn C.1.1 C.1.2.1 hd h1 h2 ho ht (kk p e s m args below meth c C H locs ls hR hS hl)
theorem ew_lookup {d : Int} {ps : Array (Int × Int)} {ln : Nat} {x : Int32} {off : Int} (hd : decode cc pc = .ok (.lookupswitch d ps, ln)) (hq : (ps.toList.zip (ps.toList.drop 1)).all (fun (a, next) => a.1 < next.1) = true) (ho : Op.lookupswitch.offset ps.toList d x.toInt = off) (ht : (pc : Int) + off = (t : Int)) (kk : EW l G y cc nL ret fr mc ms Q k sl h n t L (st)) : EW l G y cc nL ret fr mc ms Q k sl h n pc L (.int x :: st) := by
  intro p e s m args below meth c C H locs ls hR hS hl
  exact lv_lookup C.1.1 C.1.2.1 hd hq ho ht (kk p e s m args below meth c C H locs ls hR hS hl)
end EWR
