/-! the reference: ends whole -/
set_option maxRecDepth 100000
/-- an array is its places: two functions that agree on them are one cell -/
theorem HR_J {G : GW} {h : AH} {n a N : Nat} {H : Heap} {f f' : Nat → Int64} (hR : HR G h n H) (hh : h a = some (JA N f)) (e : ∀ j, j < N → f j = f' j) : HR G (va_up h a (some (JA N f'))) n H := by
  refine hR.set (JA N f') hh ?_ rfl (fun _ _ => rfl)
  have h1 : H[rho G a]? = some (vp_cell (gA G 2) (N, .inr (.inl f))) := hR.2.2.2 a _ hh
  show H[rho G a]? = some (vp_cell (gA G 2) (N, .inr (.inl f')))
  rw [h1, vp_cell_l, vp_cell_l]
  congr 1
  unfold arrV
  congr 2
  funext j
  show Value.long (f j.val) = Value.long (f' j.val)
  rw [e j.val j.isLt]
theorem EW.hr {l : Launch} {G : GW} {y : MethodName} {cc : ByteArray} {nL : Nat} {ret : Option FieldType} {fr mc ms : Nat} {Q : Option Value → AH → Nat → Prop} {k sl : Nat} {h h' : AH} {n pc : Nat} {L : List (Option Value)} {st : List Value} (hc : ∀ H : Heap, HR G h n H → HR G h' n H) (kk : EW l G y cc nL ret fr mc ms Q k sl h' n pc L st) : EW l G y cc nL ret fr mc ms Q k sl h n pc L st := by
  intro p e s m args below meth c C1 H locs ls hR hS hl
  exact kk p e s m args below meth c C1 H locs ls (hc H hR) hS hl
theorem zerL_0 {f : Nat → Int64} : ∀ (k j : Nat), j < k → zerL f k j = 0
  | 0, j, h => by omega
  | k + 1, j, h => by
    show vp_updL (zerL f k) k 0 j = 0
    by_cases e : j = k
    · subst e; exact pk_uLs
    · rw [pk_uLn e]; exact zerL_0 k j (by omega)
set_option maxHeartbeats 4000000 in
theorem lp_ends6 {l : Launch} {G : GW} {h : AH} {n : Nat} {s : Nat → Int32} {F34 CU WA P DC DB : Nat → Int32} {np nd : Nat} (m34 : h 34 = some (IA 8 F34)) (m37 : h 37 = some (IA 200 CU)) (m38 : h 38 = some (IA 200 WA)) (m52 : h 52 = some (IA 20 P)) (m53 : h 53 = some (IA 6 DC)) (m54 : h 54 = some (IA 6 DB)) (hnp : s 25 = nI np) (hnp4 : np ≤ 4) (hnd : s 27 = nI nd) (hnd4 : nd ≤ 4) (hP : ∀ q, q < np → ∃ N, N < 100 ∧ P (5 * q + 1) = nI N) {f : Nat → Int64} : ∀ (g k : Nat) (o2 o3 o4 : Option Value), k + g = 100 → EW l G yX4_ends cX4_ends 5 none 4 0 0 (Qv (hov h [(33, MO s (allK P CU WA DC DB (F34 7) (s 32) (s 33) np nd f 100)), (55, JA 100 (sumsK P CU WA DC DB (F34 7) (s 32) (s 33) np nd f 100))]) n) 0 0 (hov h [(33, OB 4 (MOf s (allK P CU WA DC DB (F34 7) (s 32) (s 33) np nd f k))), (55, JA 100 (sumsK P CU WA DC DB (F34 7) (s 32) (s 33) np nd f k))]) n 130 [some (.ref 33), some (.int (nI k)), o2, o3, o4] [] := by
  intro g
  induction g with
  | zero =>
    intro k o2 o3 o4 hk
    have hk1 : k = 100 := by omega
    subst hk1
    refine ew_iload_n (t := 131) dX4_ends_130 rfl rfl rfl ?_
    refine ew_bipush (t := 133) (v := 100) dX4_ends_131 (by decide) rfl ?_
    refine ew_icmp_ge (t := 274) (t2 := 136) dX4_ends_133 rfl rfl (fun c_133 => ?_) (fun c_133 => ?_)
    · exact ew_vret rfl dX4_ends_274 (Nat.le_refl _) (Nat.le_refl _) ⟨rfl, rfl, rfl⟩
    · exact absurd (show (100 : Int32) ≤ nI 100 from Int32.le_refl _) c_133
  | succ g ih =>
    intro k o2 o3 o4 hk
    have K : ∀ o2 : Option Value, EW l G yX4_ends cX4_ends 5 none 4 0 0 (Qv (hov h [(33, MO s (allK P CU WA DC DB (F34 7) (s 32) (s 33) np nd f 100)), (55, JA 100 (sumsK P CU WA DC DB (F34 7) (s 32) (s 33) np nd f 100))]) n) 0 0 (hov h [(33, OB 4 (MOf s (allK P CU WA DC DB (F34 7) (s 32) (s 33) np nd f k))), (55, JA 100 (vp_updL (sumsK P CU WA DC DB (F34 7) (s 32) (s 33) np nd f k) k (cellV P CU WA DC DB (F34 7) (s 32) (s 33) np nd k ((sumsK P CU WA DC DB (F34 7) (s 32) (s 33) np nd f k) k))))]) n 253 [some (.ref 33), some (.int (nI k)), o2, o3, o4] [] := by
      intro o2
      refine ew_aload_n (t := 254) dX4_ends_253 rfl rfl rfl ?_
      refine ew_dup (t := 255) dX4_ends_254 rfl rfl ?_
      refine ew_get (t := 258) (j := 31) (v := .long (allK P CU WA DC DB (F34 7) (s 32) (s 33) np nd f k)) fcX4 rfl (Nat.le_of_ble_eq_true rfl) q1052 rfl dX4_ends_255 rfl ?_
      refine ew_aload_n (t := 259) dX4_ends_258 rfl rfl rfl ?_
      refine ew_get (t := 262) (j := 30) (v := .ref 55) fcX4 rfl (Nat.le_of_ble_eq_true rfl) q1051 rfl dX4_ends_259 rfl ?_
      refine ew_iload_n (t := 263) dX4_ends_262 rfl rfl rfl ?_
      refine ew_lald (t := 264) (j := k) (N := 100) rfl (vp_in_nI (by omega) (by omega)) (nI_clamp (by omega)) dX4_ends_263 rfl ?_
      rw [pk_uLs]
      refine ew_ladd (t := 265) dX4_ends_264 rfl ?_
      refine ew_put (t := 268) (j := 31) (fs' := MOf s ((allK P CU WA DC DB (F34 7) (s 32) (s 33) np nd f k) + (cellV P CU WA DC DB (F34 7) (s 32) (s 33) np nd k ((sumsK P CU WA DC DB (F34 7) (s 32) (s 33) np nd f k) k)))) (h' := (hov h [(33, OB 4 (MOf s ((allK P CU WA DC DB (F34 7) (s 32) (s 33) np nd f k) + (cellV P CU WA DC DB (F34 7) (s 32) (s 33) np nd k ((sumsK P CU WA DC DB (F34 7) (s 32) (s 33) np nd f k) k))))), (55, JA 100 (vp_updL (sumsK P CU WA DC DB (F34 7) (s 32) (s 33) np nd f k) k (cellV P CU WA DC DB (F34 7) (s 32) (s 33) np nd k ((sumsK P CU WA DC DB (F34 7) (s 32) (s 33) np nd f k) k))))])) fcX4 rfl (Nat.le_of_ble_eq_true rfl) rfl q1052 rfl rfl (Nat.le_of_ble_eq_true rfl) rfl dX4_ends_265 (hov_up rfl) rfl ?_
      refine ew_iinc (t := 271) (x := (nI k)) (v := ((nI k) + 1)) (L' := [some (.ref 33), some (.int ((nI k) + 1)), o2, o3, o4]) dX4_ends_268 rfl rfl (Nat.le_of_ble_eq_true rfl) rfl rfl ?_
      refine ew_goto (t := 130) dX4_ends_271 rfl ?_
      rw [nI_1]
      exact ih (k + 1) o2 o3 o4 (by omega)
    refine ew_iload_n (t := 131) dX4_ends_130 rfl rfl rfl ?_
    refine ew_bipush (t := 133) (v := 100) dX4_ends_131 (by decide) rfl ?_
    refine ew_icmp_ge (t := 274) (t2 := 136) dX4_ends_133 rfl rfl (fun c_133 => ?_) (fun c_133 => ?_)
    · exact absurd c_133 (nI_ge (b := 100) (by omega) (by omega))
    · refine ew_ic0 (t := 137) dX4_ends_136 rfl ?_
      refine ew_istore_n (t := 138) (L' := [some (.ref 33), some (.int (nI k)), some (.int 0), o3, o4]) dX4_ends_137 rfl (Nat.le_of_ble_eq_true rfl) rfl rfl ?_
      refine EW.heap (h' := (hov h [(33, OB 4 (MOf s (allK P CU WA DC DB (F34 7) (s 32) (s 33) np nd f k))), (55, JA 100 (vp_updL (sumsK P CU WA DC DB (F34 7) (s 32) (s 33) np nd f k) k (mulP P CU WA (F34 7) (s 32) k ((sumsK P CU WA DC DB (F34 7) (s 32) (s 33) np nd f k) k) 0)))])) (by rw [show vp_updL (sumsK P CU WA DC DB (F34 7) (s 32) (s 33) np nd f k) k (mulP P CU WA (F34 7) (s 32) k ((sumsK P CU WA DC DB (F34 7) (s 32) (s 33) np nd f k) k) 0) = (sumsK P CU WA DC DB (F34 7) (s 32) (s 33) np nd f k) from updL_self _ _]) ?_
      refine lp_ends4 m34 m37 m38 m52 m53 m54 hnp hnp4 hnd hnd4 hP (by omega) ?_ np 0 (by omega)
      refine ew_ic0 (t := 196) dX4_ends_195 rfl ?_
      refine ew_istore_n (t := 197) (L' := [some (.ref 33), some (.int (nI k)), some (.int 0), o3, o4]) dX4_ends_196 rfl (Nat.le_of_ble_eq_true rfl) rfl rfl ?_
      by_cases hno : s 33 = 0
      · have e1 : (cellV P CU WA DC DB (F34 7) (s 32) (s 33) np nd k ((sumsK P CU WA DC DB (F34 7) (s 32) (s 33) np nd f k) k)) = mulD DC DB k (mulP P CU WA (F34 7) (s 32) k ((sumsK P CU WA DC DB (F34 7) (s 32) (s 33) np nd f k) k) np) nd := by show mulD _ _ _ _ (if _ then _ else _) = _; rw [if_pos hno]
        rw [e1] at K
        exact lp_ends5 m34 m37 m38 m52 m53 m54 hnp hnp4 hnd hnd4 hP (by omega) hno K nd 0 (by omega)
      · have e1 : (cellV P CU WA DC DB (F34 7) (s 32) (s 33) np nd k ((sumsK P CU WA DC DB (F34 7) (s 32) (s 33) np nd f k) k)) = (mulP P CU WA (F34 7) (s 32) k ((sumsK P CU WA DC DB (F34 7) (s 32) (s 33) np nd f k) k) np) := by show mulD _ _ _ _ (if _ then _ else _) = _; rw [if_neg hno]; rfl
        rw [e1] at K
        refine ew_iload_n (t := 198) dX4_ends_197 rfl rfl rfl ?_
        refine ew_aload_n (t := 199) dX4_ends_198 rfl rfl rfl ?_
        refine ew_get (t := 202) (j := 27) (v := .int (s 27)) fcX4 rfl (Nat.le_of_ble_eq_true rfl) q1048 rfl dX4_ends_199 rfl ?_
        rw [hnd]
        refine ew_icmp_ge (t := 253) (t2 := 205) dX4_ends_202 rfl rfl (fun c_202 => ?_) (fun c_202 => ?_)
        · exact K _
        · refine ew_aload_n (t := 206) dX4_ends_205 rfl rfl rfl ?_
          refine ew_get (t := 209) (j := 33) (v := .int (s 33)) fcX4 rfl (Nat.le_of_ble_eq_true rfl) q1054 rfl dX4_ends_206 rfl ?_
          refine ew_if_ne (t := 253) (t2 := 212) dX4_ends_209 rfl rfl (fun c_209 => ?_) (fun c_209 => ?_)
          · exact K _
          · exact absurd c_209 hno
theorem mR_55 {h : AH} {R : MR} {c : AC} (mR : rowsM h R) : rowsM (hov h [(55, c)]) R := by
  intro k h1 h2
  rw [hov_out (by intro q hq; simp only [List.mem_cons, List.not_mem_nil, or_false] at hq; subst hq; dsimp only; omega)]
  exact mR k h1 h2
set_option maxHeartbeats 4000000 in
theorem am_ends {l : Launch} {G : GW} {h : AH} {n : Nat} {s : Nat → Int32} {al : Int64} {f0 : Nat → Int64} {F34 F35 F36 CU WA P DC DB : Nat → Int32} {a H g np nd : Nat} {R : MR} (m33 : h 33 = some (MO s al)) (cf : CFM h F34 F35 F36 a H) (mR : rowsM h R) (m55 : h 55 = some (JA 100 f0)) (hS1 : ∃ b, b < 100 ∧ F34 1 = nI b) (hg : F34 6 = nI g) (hg3 : g ≤ 3) (m37 : h 37 = some (IA 200 CU)) (m38 : h 38 = some (IA 200 WA)) (m52 : h 52 = some (IA 20 P)) (m53 : h 53 = some (IA 6 DC)) (m54 : h 54 = some (IA 6 DB)) (hnp : s 25 = nI np) (hnp4 : np ≤ 4) (hnd : s 27 = nI nd) (hnd4 : nd ≤ 4) (hP : ∀ q, q < np → ∃ N, N < 100 ∧ P (5 * q + 1) = nI N) {ws : List WY} (hE : EnM F34 F35 F36 (s 22) (s 23) (s 24) a H ws 0 (begR (F34 1) R)) : AM l G yX4_ends cX4_ends 5 none 4 0 0 [.ref 33] h n (fun r h' n' => ∃ lv R', Qv (hov (hovM (hov h [(55, JA 100 (waysS H g ws (fun _ => 0)))]) s al lv R') [(33, MO (upd s 21 lv) (allK P CU WA DC DB (F34 7) (s 32) (s 33) np nd (waysS H g ws (fun _ => 0)) 100)), (55, JA 100 (sumsK P CU WA DC DB (F34 7) (s 32) (s 33) np nd (waysS H g ws (fun _ => 0)) 100))]) n r h' n') := by
  refine AM.of (L := [some (.ref 33), none, none, none, none]) (by decide) (Nat.le_of_ble_eq_true rfl) rfl ?_
  refine ew_ic0 (t := 1) dX4_ends_0 rfl ?_
  refine ew_istore_n (t := 2) (L' := [some (.ref 33), some (.int 0), none, none, none]) dX4_ends_1 rfl (Nat.le_of_ble_eq_true rfl) rfl rfl ?_
  refine EW.heap (h' := hov h [(55, JA 100 (zerL f0 0))]) (hov_same m55).symm ?_
  refine lp_ends1 m33 ?_ 100 0 (by omega)
  refine EW.hr (h' := hov h [(55, JA 100 (fun _ => 0))]) (fun H hR => by have h9 := HR_J (f' := fun _ => 0) hR (a := 55) rfl (fun j hj => zerL_0 100 j hj); rw [hov_up (l' := [(55, JA 100 (fun _ => 0))]) rfl] at h9; exact h9) ?_
  refine ew_aload_n (t := 22) dX4_ends_21 rfl rfl rfl ?_
  refine ew_begins (t := 25) (h := hov h [(55, JA 100 (fun _ => 0))]) (s := s) m33 cf.1 (mR_55 mR) (lw_V q1215 q1217 qs34 q60 q1218) dX4_ends_22 (Nat.le_of_ble_eq_true rfl) (Nat.le_refl _) (Nat.le_refl _) (Nat.le_of_ble_eq_true rfl) rfl ?_
  refine lp_ends3 (Z := waysS H g ws (fun _ => 0)) cf hg hg3 (fun lv R' o1 o2 o3 o4 => ?_) ws 0 _ _ _ _ _ _ rfl hE (by omega) (beg_ok cf.2.2.2.2.2.2.1 hS1)
  refine EW.post (fun r h' n' q => (⟨lv, R', q⟩ : ∃ lv R', Qv (hov (hovM (hov h [(55, JA 100 (waysS H g ws (fun _ => 0)))]) s al lv R') [(33, MO (upd s 21 lv) (allK P CU WA DC DB (F34 7) (s 32) (s 33) np nd (waysS H g ws (fun _ => 0)) 100)), (55, JA 100 (sumsK P CU WA DC DB (F34 7) (s 32) (s 33) np nd (waysS H g ws (fun _ => 0)) 100))]) n r h' n')) ?_
  generalize waysS H g ws (fun _ => 0) = f
  refine ew_aload_n (t := 124) dX4_ends_123 rfl rfl rfl ?_
  refine ew_lc0 (t := 125) dX4_ends_124 rfl ?_
  refine ew_put (t := 128) (j := 31) (fs' := MOf (upd s 21 lv) 0) (h' := (hov (hovM (hov h [(55, JA 100 f)]) s al lv R') [(33, OB 4 (MOf (upd s 21 lv) 0))])) fcX4 rfl (Nat.le_of_ble_eq_true rfl) rfl q1052 rfl rfl (Nat.le_of_ble_eq_true rfl) rfl dX4_ends_125 (hov_up0) rfl ?_
  refine ew_ic0 (t := 129) dX4_ends_128 rfl ?_
  refine ew_istore_n (t := 130) (L' := [some (.ref 33), some (.int 0), o2, o3, o4]) dX4_ends_129 rfl (Nat.le_of_ble_eq_true rfl) rfl rfl ?_
  refine EW.heap (h' := hov (hovM (hov h [(55, JA 100 f)]) s al lv R') [(33, MO (upd s 21 lv) 0), (55, JA 100 f)]) (hov_mid (l2 := []) (show (hovM (hov h [(55, JA 100 f)]) s al lv R') 55 = some (JA 100 f) from rfl) (by intro q hq; cases hq) [(33, MO (upd s 21 lv) 0)]).symm ?_
  exact lp_ends6 (h := hovM (hov h [(55, JA 100 f)]) s al lv R') (s := upd s 21 lv) cf.1 m37 m38 m52 m53 m54 hnp hnp4 hnd hnd4 hP 100 0 _ _ _ (by omega)
