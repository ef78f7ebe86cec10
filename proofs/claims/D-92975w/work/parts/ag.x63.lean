-- Obj fields dict_keys(['cls', 'fun', 'sname', 'refs', 'extra', 'ups'])
/-! the reference's constructor -/
set_option maxRecDepth 100000
theorem EW.cnt {l : Launch} {G : GW} {y : MethodName} {cc : ByteArray} {nL : Nat} {ret : Option FieldType} {fr mc ms : Nat} {Q : Option Value → AH → Nat → Prop} {k sl k' sl' : Nat} {h : AH} {n n' pc : Nat} {L : List (Option Value)} {st : List Value} (e1 : k = k') (e2 : sl = sl') (e3 : n = n') (kk : EW l G y cc nL ret fr mc ms Q k' sl' h n' pc L st) : EW l G y cc nL ret fr mc ms Q k sl h n pc L st := by
  subst e1 e2 e3
  exact kk
theorem hv_nil {h : AH} {k : Nat} : hov h [] k = h k := rfl
def flK (f : Nat → Int32) (v : Int32) : Nat → Nat → Int32
  | 0 => f
  | k + 1 => upd (flK f v k) k v
theorem flK_at {f : Nat → Int32} {v : Int32} : ∀ (k j : Nat), j < k → flK f v k j = v
  | 0, j, h => by omega
  | k + 1, j, h => by
    rw [flK]
    by_cases e : j = k
    · rw [e, pk_us]
    · rw [pk_un e]; exact flK_at k j (by omega)
def flM (f : Nat → Int32) (v : Int32) : Nat → Nat → Int32
  | 0 => f
  | k + 1 => upd (flM f v k) (k % 100) v
theorem flM_at {f : Nat → Int32} {v : Int32} : ∀ (k j : Nat), j < k → j < 100 → flM f v k j = v
  | 0, j, h, _ => by omega
  | k + 1, j, h, h2 => by
    rw [flM]
    by_cases e : j = k % 100
    · rw [e, pk_us]
    · rw [pk_un e]; exact flM_at k j (by omega) h2
/-- what is told at the start -/
def iF : Nat → Nat → Int32 := fun k j => match k with
  | 34 => if j = 2 then 6 else if j = 3 then 1 else if j = 5 then 60 else if j = 6 then 1 else if j = 7 then 8 else 0
  | 35 => if j < 7 then -1 else 0
  | 37 => if j < 200 then 8 else 0
  | 39 => if j < 100 then 1 else 0
  | 59 => if j < 4 then -1 else 0
  | _ => 0
theorem flK_eq {v : Int32} : ∀ k, flK (fun _ => 0) v k = fun j => if j < k then v else 0
  | 0 => by funext j; simp [flK]
  | k + 1 => by
    funext j
    rw [flK, flK_eq k]
    unfold upd
    by_cases e : j = k
    · rw [if_pos e, if_pos (by omega)]
    · rw [if_neg e]
      dsimp only
      by_cases c : j < k
      · rw [if_pos c, if_pos (by omega)]
      · rw [if_neg c, if_neg (by omega)]
theorem flM_eq {v : Int32} : ∀ k, 100 ≤ k → flM (fun _ => 0) v k = fun j => if j < 100 then v else 0 := by
  intro k hk
  funext j
  by_cases c : j < 100
  · rw [if_pos c]; exact flM_at k j (by omega) c
  · rw [if_neg c]
    have : ∀ k, flM (fun _ => 0) v k j = 0 := by
      intro k
      induction k with
      | zero => rfl
      | succ k ih => rw [flM, pk_un (by omega), ih]
    exact this k
theorem set_eq : upd (upd (upd (upd (upd (fun _ => (0 : Int32)) 2 6) 3 1) 5 60) 6 1) 7 8 = iF 34 := by
  funext j
  show _ = (if j = 2 then (6 : Int32) else if j = 3 then 1 else if j = 5 then 60 else if j = 6 then 1 else if j = 7 then 8 else 0)
  unfold upd
  by_cases c2 : j = 2
  · subst c2; decide
  by_cases c3 : j = 3
  · subst c3; decide
  by_cases c5 : j = 5
  · subst c5; decide
  by_cases c6 : j = 6
  · subst c6; decide
  by_cases c7 : j = 7
  · subst c7; decide
  simp [c2, c3, c5, c6, c7]
theorem EW.ov1 {l : Launch} {G : GW} {y : MethodName} {cc : ByteArray} {nL : Nat} {ret : Option FieldType} {fr mc ms : Nat} {Q : Option Value → AH → Nat → Prop} {k sl : Nat} {h : AH} {n pc : Nat} {L : List (Option Value)} {st : List Value} {a : Nat} {c : AC} (e : h a = some c) (kk : EW l G y cc nL ret fr mc ms Q k sl (hov h [(a, c)]) n pc L st) : EW l G y cc nL ret fr mc ms Q k sl h n pc L st :=
  EW.heap (hov_mid e (l2 := []) (by intro q hq; cases hq) []).symm kk
theorem EW.ov2 {l : Launch} {G : GW} {y : MethodName} {cc : ByteArray} {nL : Nat} {ret : Option FieldType} {fr mc ms : Nat} {Q : Option Value → AH → Nat → Prop} {k sl : Nat} {h : AH} {n pc : Nat} {L : List (Option Value)} {st : List Value} {a b : Nat} {c d : AC} (e : h a = some c) (e2 : h b = some d) (kk : EW l G y cc nL ret fr mc ms Q k sl (hov h [(a, c), (b, d)]) n pc L st) : EW l G y cc nL ret fr mc ms Q k sl h n pc L st :=
  EW.heap (hov_same2 e e2).symm kk
theorem rem_n {k : Nat} (h : k < 2 ^ 31) : nI k - nI k / 100 * 100 = nI (k % 100) := pk_rem (d := 100) h (by omega) (by omega)
set_option maxHeartbeats 600000 in
theorem lm_i1 {l : Launch} {G : GW} {h : AH} {n : Nat} {f0 f1 : Nat → Int32} {Q : Option Value → AH → Nat → Prop} (m33 : h 33 = some (MO (fun _ => 0) 0)) (kk : EW l G yX4_init cX4_init 2 none 1 29 1559 Q 29 1559 (hov h [(59, IA 4 (flK f0 (-1) 4))]) n 257 [some (.ref 33), some (.int (nI 4))] []) : ∀ (f k : Nat), k + f = 4 → EW l G yX4_init cX4_init 2 none 1 29 1559 Q 29 1559 (hov h [(59, IA 4 (flK f0 (-1) k))]) n 239 [some (.ref 33), some (.int (nI k))] [] := by
  intro f
  induction f with
  | zero =>
    intro k  hk
    refine ew_iload_n (t := 240) dX4_init_239 rfl rfl rfl ?_
    refine ew_ic4 (t := 241) dX4_init_240 rfl ?_
    refine ew_icmp_ge (t := 257) (t2 := 244) dX4_init_241 rfl rfl (fun c_241 => ?_) (fun c_241 => ?_)
    · rw [show k = 4 by omega]
      exact kk
    · exact absurd (show (4 : Int32) ≤ nI k by rw [show k = 4 by omega]; decide) c_241
  | succ f ih =>
    intro k  hk
    refine ew_iload_n (t := 240) dX4_init_239 rfl rfl rfl ?_
    refine ew_ic4 (t := 241) dX4_init_240 rfl ?_
    refine ew_icmp_ge (t := 257) (t2 := 244) dX4_init_241 rfl rfl (fun c_241 => ?_) (fun c_241 => ?_)
    · exact absurd c_241 (nI_ge (b := 4) (by omega) (by omega))
    · refine ew_aload_n (t := 245) dX4_init_244 rfl rfl rfl ?_
      refine ew_get (t := 248) (j := 38) (v := .ref 59) fcX4 m33 (Nat.le_of_ble_eq_true rfl) q1059 rfl dX4_init_245 rfl ?_
      refine ew_iload_n (t := 249) dX4_init_248 rfl rfl rfl ?_
      refine ew_icm1 (t := 250) dX4_init_249 rfl ?_
      refine ew_iast (t := 251) (j := k) (N := 4) (h' := (hov h [(59, IA 4 (upd (flK f0 (-1) k) k (-1)))])) rfl (vp_in_nI (by omega) (by omega)) (nI_clamp (by omega)) dX4_init_250 (hov_up rfl) rfl ?_
      refine ew_iinc (t := 254) (x := (nI k)) (v := ((nI k) + 1)) (L' := [some (.ref 33), some (.int ((nI k) + 1))]) dX4_init_251 rfl rfl (Nat.le_of_ble_eq_true rfl) rfl rfl ?_
      refine ew_goto (t := 239) dX4_init_254 rfl ?_
      rw [nI_1]
      exact ih (k + 1) (by omega)
set_option maxHeartbeats 600000 in
theorem lm_i2 {l : Launch} {G : GW} {h : AH} {n : Nat} {f0 f1 : Nat → Int32} {Q : Option Value → AH → Nat → Prop} (m33 : h 33 = some (MO (fun _ => 0) 0)) (kk : EW l G yX4_init cX4_init 2 none 1 29 1559 Q 29 1559 (hov h [(37, IA 200 (flK f0 8 200)), (39, IA 100 (flM f1 1 200))]) n 290 [some (.ref 33), some (.int (nI 200))] []) : ∀ (f k : Nat), k + f = 200 → EW l G yX4_init cX4_init 2 none 1 29 1559 Q 29 1559 (hov h [(37, IA 200 (flK f0 8 k)), (39, IA 100 (flM f1 1 k))]) n 259 [some (.ref 33), some (.int (nI k))] [] := by
  intro f
  induction f with
  | zero =>
    intro k  hk
    refine ew_iload_n (t := 260) dX4_init_259 rfl rfl rfl ?_
    refine ew_sipush (t := 263) (v := 200) dX4_init_260 (by decide) rfl ?_
    refine ew_icmp_ge (t := 290) (t2 := 266) dX4_init_263 rfl rfl (fun c_263 => ?_) (fun c_263 => ?_)
    · rw [show k = 200 by omega]
      exact kk
    · exact absurd (show (200 : Int32) ≤ nI k by rw [show k = 200 by omega]; decide) c_263
  | succ f ih =>
    intro k  hk
    refine ew_iload_n (t := 260) dX4_init_259 rfl rfl rfl ?_
    refine ew_sipush (t := 263) (v := 200) dX4_init_260 (by decide) rfl ?_
    refine ew_icmp_ge (t := 290) (t2 := 266) dX4_init_263 rfl rfl (fun c_263 => ?_) (fun c_263 => ?_)
    · exact absurd c_263 (nI_ge (b := 200) (by omega) (by omega))
    · refine ew_aload_n (t := 267) dX4_init_266 rfl rfl rfl ?_
      refine ew_get (t := 270) (j := 3) (v := .ref 37) fcX4 m33 (Nat.le_of_ble_eq_true rfl) q1024 rfl dX4_init_267 rfl ?_
      refine ew_iload_n (t := 271) dX4_init_270 rfl rfl rfl ?_
      refine ew_bipush (t := 273) (v := 8) dX4_init_271 (by decide) rfl ?_
      refine ew_iast (t := 274) (j := k) (N := 200) (h' := (hov h [(37, IA 200 (upd (flK f0 8 k) k 8)), (39, IA 100 (flM f1 1 k))])) rfl (vp_in_nI (by omega) (by omega)) (nI_clamp (by omega)) dX4_init_273 (hov_up rfl) rfl ?_
      refine ew_aload_n (t := 275) dX4_init_274 rfl rfl rfl ?_
      refine ew_get (t := 278) (j := 5) (v := .ref 39) fcX4 m33 (Nat.le_of_ble_eq_true rfl) q1026 rfl dX4_init_275 rfl ?_
      refine ew_iload_n (t := 279) dX4_init_278 rfl rfl rfl ?_
      refine ew_bipush (t := 281) (v := 100) dX4_init_279 (by decide) rfl ?_
      refine ew_irem (t := 282) dX4_init_281 (by decide) rfl ?_
      rw [rem_n (by omega)]
      refine ew_ic1 (t := 283) dX4_init_282 rfl ?_
      refine ew_iast (t := 284) (j := (k % 100)) (N := 100) (h' := (hov h [(37, IA 200 (upd (flK f0 8 k) k 8)), (39, IA 100 (upd (flM f1 1 k) (k % 100) 1))])) rfl (vp_in_nI (by omega) (by omega)) (nI_clamp (by omega)) dX4_init_283 (hov_up rfl) rfl ?_
      refine ew_iinc (t := 287) (x := (nI k)) (v := ((nI k) + 1)) (L' := [some (.ref 33), some (.int ((nI k) + 1))]) dX4_init_284 rfl rfl (Nat.le_of_ble_eq_true rfl) rfl rfl ?_
      refine ew_goto (t := 259) dX4_init_287 rfl ?_
      rw [nI_1]
      exact ih (k + 1) (by omega)
set_option maxHeartbeats 600000 in
theorem lm_i3 {l : Launch} {G : GW} {h : AH} {n : Nat} {f0 f1 : Nat → Int32} {Q : Option Value → AH → Nat → Prop} (m33 : h 33 = some (MO (fun _ => 0) 0)) (kk : EW l G yX4_init cX4_init 2 none 1 29 1559 Q 29 1559 (hov h [(35, IA 7 (flK f0 (-1) 7))]) n 311 [some (.ref 33), some (.int (nI 7))] []) : ∀ (f k : Nat), k + f = 7 → EW l G yX4_init cX4_init 2 none 1 29 1559 Q 29 1559 (hov h [(35, IA 7 (flK f0 (-1) k))]) n 292 [some (.ref 33), some (.int (nI k))] [] := by
  intro f
  induction f with
  | zero =>
    intro k  hk
    refine ew_iload_n (t := 293) dX4_init_292 rfl rfl rfl ?_
    refine ew_bipush (t := 295) (v := 7) dX4_init_293 (by decide) rfl ?_
    refine ew_icmp_ge (t := 311) (t2 := 298) dX4_init_295 rfl rfl (fun c_295 => ?_) (fun c_295 => ?_)
    · rw [show k = 7 by omega]
      exact kk
    · exact absurd (show (7 : Int32) ≤ nI k by rw [show k = 7 by omega]; decide) c_295
  | succ f ih =>
    intro k  hk
    refine ew_iload_n (t := 293) dX4_init_292 rfl rfl rfl ?_
    refine ew_bipush (t := 295) (v := 7) dX4_init_293 (by decide) rfl ?_
    refine ew_icmp_ge (t := 311) (t2 := 298) dX4_init_295 rfl rfl (fun c_295 => ?_) (fun c_295 => ?_)
    · exact absurd c_295 (nI_ge (b := 7) (by omega) (by omega))
    · refine ew_aload_n (t := 299) dX4_init_298 rfl rfl rfl ?_
      refine ew_get (t := 302) (j := 1) (v := .ref 35) fcX4 m33 (Nat.le_of_ble_eq_true rfl) q1022 rfl dX4_init_299 rfl ?_
      refine ew_iload_n (t := 303) dX4_init_302 rfl rfl rfl ?_
      refine ew_icm1 (t := 304) dX4_init_303 rfl ?_
      refine ew_iast (t := 305) (j := k) (N := 7) (h' := (hov h [(35, IA 7 (upd (flK f0 (-1) k) k (-1)))])) rfl (vp_in_nI (by omega) (by omega)) (nI_clamp (by omega)) dX4_init_304 (hov_up rfl) rfl ?_
      refine ew_iinc (t := 308) (x := (nI k)) (v := ((nI k) + 1)) (L' := [some (.ref 33), some (.int ((nI k) + 1))]) dX4_init_305 rfl rfl (Nat.le_of_ble_eq_true rfl) rfl rfl ?_
      refine ew_goto (t := 292) dX4_init_308 rfl ?_
      rw [nI_1]
      exact ih (k + 1) (by omega)
set_option maxHeartbeats 600000 in
theorem lm_tail {l : Launch} {G : GW} {h : AH} {n : Nat} (mc : MC (fun _ => 0) 0 (fun _ _ => 0) (fun _ => 0) h) : EW l G yX4_init cX4_init 2 none 1 29 1559 (fun r h' n' => r = none ∧ n' = n ∧ MC (fun _ => 0) 0 iF (fun _ => 0) h' ∧ ∀ k, k < 33 → h' k = h k) 29 1559 h n 237 [some (.ref 33), none] [] := by
  have m33 := mc.1
  refine ew_ic0 (t := 238) dX4_init_237 rfl ?_
  refine ew_istore_n (t := 239) (L' := [some (.ref 33), some (.int 0)]) dX4_init_238 rfl (Nat.le_of_ble_eq_true rfl) rfl rfl ?_
  refine EW.ov1 (mI mc 59 rfl) ?_
  refine lm_i1 (h := h) (f0 := fun _ => 0) (f1 := fun _ => 0) m33 ?_ 4 0 rfl
  obtain ⟨h1, e1⟩ : ∃ x, x = hov h [(59, IA 4 (flK (fun _ => 0) (-1) 4))] := ⟨_, rfl⟩
  rw [← e1]
  refine ew_ic0 (t := 258) dX4_init_257 rfl ?_
  refine ew_istore_n (t := 259) (L' := [some (.ref 33), some (.int 0)]) dX4_init_258 rfl (Nat.le_of_ble_eq_true rfl) rfl rfl ?_
  have n33 : h1 33 = some (MO (fun _ => 0) 0) := by rw [e1]; exact m33
  refine EW.ov2 (a := 37) (b := 39) (by rw [e1]; exact mI mc 37 rfl) (by rw [e1]; exact mI mc 39 rfl) ?_
  refine lm_i2 (h := h1) (f0 := fun _ => 0) (f1 := fun _ => 0) n33 ?_ 200 0 rfl
  obtain ⟨h2, e2⟩ : ∃ x, x = hov h1 [(37, IA 200 (flK (fun _ => 0) 8 200)), (39, IA 100 (flM (fun _ => 0) 1 200))] := ⟨_, rfl⟩
  rw [← e2]
  refine ew_ic0 (t := 291) dX4_init_290 rfl ?_
  refine ew_istore_n (t := 292) (L' := [some (.ref 33), some (.int 0)]) dX4_init_291 rfl (Nat.le_of_ble_eq_true rfl) rfl rfl ?_
  have o33 : h2 33 = some (MO (fun _ => 0) 0) := by rw [e2, e1]; exact m33
  refine EW.ov1 (a := 35) (by rw [e2, e1]; exact mI mc 35 rfl) ?_
  refine lm_i3 (h := h2) (f0 := fun _ => 0) (f1 := fun _ => 0) o33 ?_ 7 0 rfl
  obtain ⟨h3, e3⟩ : ∃ x, x = hov h2 [(35, IA 7 (flK (fun _ => 0) (-1) 7))] := ⟨_, rfl⟩
  rw [← e3]
  have p33 : h3 33 = some (MO (fun _ => 0) 0) := by rw [e3, e2, e1]; exact m33
  have p34 : h3 34 = some (IA 8 (fun _ => 0)) := by rw [e3, e2, e1]; exact mI mc 34 rfl
  refine ew_aload_n (t := 312) dX4_init_311 rfl rfl rfl ?_
  refine ew_get (t := 315) (j := 0) (v := .ref 34) fcX4 p33 (Nat.le_of_ble_eq_true rfl) q1021 rfl dX4_init_312 rfl ?_
  refine ew_ic2 (t := 316) dX4_init_315 rfl ?_
  refine ew_bipush (t := 318) (v := 6) dX4_init_316 (by decide) rfl ?_
  refine ew_iast (t := 319) (j := 2) (N := 8) (h' := (hov h3 [(34, IA 8 (upd (fun _ => 0) 2 6))])) p34 (vpI (by decide)) (by decide) dX4_init_318 (hov_up0) rfl ?_
  refine ew_aload_n (t := 320) dX4_init_319 rfl rfl rfl ?_
  refine ew_get (t := 323) (j := 0) (v := .ref 34) fcX4 p33 (Nat.le_of_ble_eq_true rfl) q1021 rfl dX4_init_320 rfl ?_
  refine ew_ic3 (t := 324) dX4_init_323 rfl ?_
  refine ew_ic1 (t := 325) dX4_init_324 rfl ?_
  refine ew_iast (t := 326) (j := 3) (N := 8) (h' := (hov h3 [(34, IA 8 (upd (upd (fun _ => 0) 2 6) 3 1))])) rfl (vpI (by decide)) (by decide) dX4_init_325 (hov_up rfl) rfl ?_
  refine ew_aload_n (t := 327) dX4_init_326 rfl rfl rfl ?_
  refine ew_get (t := 330) (j := 0) (v := .ref 34) fcX4 p33 (Nat.le_of_ble_eq_true rfl) q1021 rfl dX4_init_327 rfl ?_
  refine ew_ic5 (t := 331) dX4_init_330 rfl ?_
  refine ew_bipush (t := 333) (v := 60) dX4_init_331 (by decide) rfl ?_
  refine ew_iast (t := 334) (j := 5) (N := 8) (h' := (hov h3 [(34, IA 8 (upd (upd (upd (fun _ => 0) 2 6) 3 1) 5 60))])) rfl (vpI (by decide)) (by decide) dX4_init_333 (hov_up rfl) rfl ?_
  refine ew_aload_n (t := 335) dX4_init_334 rfl rfl rfl ?_
  refine ew_get (t := 338) (j := 0) (v := .ref 34) fcX4 p33 (Nat.le_of_ble_eq_true rfl) q1021 rfl dX4_init_335 rfl ?_
  refine ew_bipush (t := 340) (v := 6) dX4_init_338 (by decide) rfl ?_
  refine ew_ic1 (t := 341) dX4_init_340 rfl ?_
  refine ew_iast (t := 342) (j := 6) (N := 8) (h' := (hov h3 [(34, IA 8 (upd (upd (upd (upd (fun _ => 0) 2 6) 3 1) 5 60) 6 1))])) rfl (vpI (by decide)) (by decide) dX4_init_341 (hov_up rfl) rfl ?_
  refine ew_aload_n (t := 343) dX4_init_342 rfl rfl rfl ?_
  refine ew_get (t := 346) (j := 0) (v := .ref 34) fcX4 p33 (Nat.le_of_ble_eq_true rfl) q1021 rfl dX4_init_343 rfl ?_
  refine ew_bipush (t := 348) (v := 7) dX4_init_346 (by decide) rfl ?_
  refine ew_bipush (t := 350) (v := 8) dX4_init_348 (by decide) rfl ?_
  refine ew_iast (t := 351) (j := 7) (N := 8) (h' := (hov h3 [(34, IA 8 (upd (upd (upd (upd (upd (fun _ => 0) 2 6) 3 1) 5 60) 6 1) 7 8))])) rfl (vpI (by decide)) (by decide) dX4_init_350 (hov_up rfl) rfl ?_
  refine ew_vret rfl dX4_init_351 (by omega) (by omega) (⟨rfl, rfl, ⟨p33, by rw [e3, e2, e1]; exact mc.2.1, fun k h1 h2 h3 => ?_⟩, fun k hk => ?_⟩)
  · by_cases c34 : k = 34
    · subst c34; rw [hv_hit, set_eq]; rfl
    rw [hv_miss c34, hv_nil, e3]
    by_cases c35 : k = 35
    · subst c35; rw [hv_hit, flK_eq]; rfl
    rw [hv_miss c35, hv_nil, e2]
    by_cases c37 : k = 37
    · subst c37; rw [hv_hit, flK_eq]; rfl
    rw [hv_miss c37]
    by_cases c39 : k = 39
    · subst c39; rw [hv_hit, flM_eq 200 (by omega)]; rfl
    rw [hv_miss c39, hv_nil, e1]
    by_cases c59 : k = 59
    · subst c59; rw [hv_hit, flK_eq]; rfl
    rw [hv_miss c59, hv_nil]
    refine (mc.2.2 k h1 h2 h3).trans ?_
    rw [show iF k = fun _ => 0 from by funext j; unfold iF; split <;> first | rfl | (exfalso; omega)]
  · exact (hv_miss (by omega)).trans (by rw [hv_nil, e3]; exact (hv_miss (by omega)).trans (by rw [hv_nil, e2]; exact (hv_miss (by omega)).trans ((hv_miss (by omega)).trans (by rw [hv_nil, e1]; exact hv_miss (by omega)))))
