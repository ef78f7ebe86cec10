-- Obj fields dict_keys(['cls', 'fun', 'sname', 'refs', 'extra', 'ups'])
/-! the component: copy -/
set_option maxRecDepth 100000
theorem refI_2g {LN SZ : Nat → Int32} {t z m : Nat} {i : Int32} (hm : m < 2 ^ 31) (hz : z ≤ 16) (eZ : SZ t = nI z) (h : 0 ≤ LN t) (ho : ∀ k, i = nI k → k < 2 ^ 31 → ¬ k + m ≤ z) : refI LN SZ t (LN t) i (nI m) = -13 := by
  unfold refI
  rw [if_pos h, if_pos rfl]
  by_cases c3 : i < 0
  · rw [if_pos c3]
  · rw [if_neg c3, if_neg]
    intro c4
    obtain ⟨k, hk, rfl⟩ := nI_of c3
    rw [eZ] at c4
    rw [nI_l (by omega), nI_l (by omega), nI_l (by omega), lN_add] at c4
    exact ho k rfl hk ((pk_lLE (by omega) (by omega)).mp c4)
theorem cpI_at {g mv : Nat → Int32} {b : Nat} : ∀ (N q : Nat), b ≤ q → q < b + N → cpI g mv b N q = mv (q - b)
  | 0, q, h1, h2 => by omega
  | N + 1, q, h1, h2 => by
    rw [cpI]
    by_cases e : q = b + N
    · subst e; rw [pk_us]; congr 1; omega
    · rw [pk_un e]; exact cpI_at N q h1 (by omega)
theorem cpI_off {g mv : Nat → Int32} {b : Nat} : ∀ (N q : Nat), ¬ (b ≤ q ∧ q < b + N) → cpI g mv b N q = g q
  | 0, q, h => rfl
  | N + 1, q, h => by rw [cpI, pk_un (by omega)]; exact cpI_off N q (by omega)
def lnT : Nat → FieldType
  | 0 => .byte
  | 1 => .short
  | _ => .int
def lnK : Nat → Nat
  | 0 => 1
  | 1 => 4
  | _ => 0
/-- what lies in the rows of a lane fits it -/
def rwF (F : Nat → Nat → Int32) : Prop := ∀ t, t < 4 → ∀ ln, ln < 3 → F 59 t = nI ln → ∀ j, j < 16 → fits (lnT ln) (.int (F 61 (16 * t + j))) = true
theorem rwA_in {ln z : Nat} {f : Nat → Int32} (h : ln < 3) : rwA ln z f = .inl (lnK ln, z, .inl f) := by
  match ln, h with
  | 0, _ => rfl
  | 1, _ => rfl
  | 2, _ => rfl
theorem gT_ln {G : GW} {ln : Nat} (h : ln < 3) : (gT G)[lnK ln]? = some (gA G (lnK ln), lnT ln) := by
  match ln, h with
  | 0, _ => rfl
  | 1, _ => rfl
  | 2, _ => rfl
theorem lnT_no {a b : Nat} (ha : a < 3) (hb : b < 3) (h : ¬ a = b) : ((refKind (lnT a) != refKind (lnT b)) || (!refKind (lnT a) && lnT a != lnT b)) = true := by
  rcases (show a = 0 ∨ a = 1 ∨ a = 2 by omega) with rfl | rfl | rfl <;> rcases (show b = 0 ∨ b = 1 ∨ b = 2 by omega) with rfl | rfl | rfl <;> first | exact absurd rfl h | decide
theorem lnT_eq {a : Nat} : ((refKind (lnT a) != refKind (lnT a)) || (!refKind (lnT a) && lnT a != lnT a)) = false := by simp
theorem lnT_p {a : Nat} : refKind (lnT a) = false := by
  match a with
  | 0 => rfl
  | 1 => rfl
  | _ + 2 => rfl
theorem lnT_3 {a : Nat} : lnT a = .byte ∨ lnT a = .short ∨ lnT a = .int := by
  match a with
  | 0 => exact Or.inl rfl
  | 1 => exact Or.inr (Or.inl rfl)
  | _ + 2 => exact Or.inr (Or.inr rfl)
theorem wp_cells {G : GW} {h : AH} {n a K N : Nat} {f : Nat → Int32} {ty : FieldType} (ha : h a = some (.inl (K, N, .inl f))) (hK : (gT G)[K]? = some (gA G K, ty)) {U : State} (hR : HR G h n U.heap) (hV : va_K (gD G) vwCl (gT G) U) : ∃ (cell : Cell) (k : Class) (cm : ClassId), U.heap[rho G a]? = some cell ∧ (∀ k, cell.vm ≠ .statics k) ∧ U.vm.classes[cell.cls]? = some k ∧ k.kind = .array cm ty ∧ cell.slots.size = N := by
  obtain ⟨-, k0, hk0, cm0, hkk0⟩ := (hV.2 K _ hK).1 N (fun j => .int (f j))
  refine ⟨vp_cell (gA G K) (N, .inl f), k0, cm0, hR.2.2.2 a _ ha, fun _ h => (by cases h), hk0, hkk0, ?_⟩
  show (arrV _ _ _).slots.size = _
  rw [arrV_size]
theorem wp_types {G : GW} {h : AH} {n a b K1 K2 z1 z2 : Nat} {f g : Nat → Int32} {t1 t2 : FieldType} {xs xd xn : Int32} (ha : h a = some (.inl (K1, z1, .inl f))) (hb : h b = some (.inl (K2, z2, .inl g))) (hK1 : (gT G)[K1]? = some (gA G K1, t1)) (hK2 : (gT G)[K2]? = some (gA G K2, t2)) (hty : ((refKind t1 != refKind t2) || (!refKind t1 && t1 != t2)) = true)
    (U : State) (e : Env) (E : CtlPost) (hR : HR G h n U.heap) (hV : va_K (gD G) vwCl (gT G) U) (hE : ∀ acts', E (.throwNew "java/lang/ArrayStoreException" (some (cpM t1 t2))) acts' U) : wp (Native.java_lang_System.arraycopy.sem #[shv G (.ref a), .int xs, shv G (.ref b), .int xd, .int xn]) (fun _ _ _ _ => False) E e false [] U := by
  obtain ⟨c1, k1, m1, p1, p2, p3, p4, p5⟩ := wp_cells ha hK1 hR hV
  obtain ⟨c2, k2, m2, r1, r2, r3, r4, r5⟩ := wp_cells hb hK2 hR hV
  exact ac_types p1 r1 p2 r2 p3 r3 p4 r4 hty (hE _)
theorem wp_bounds {G : GW} {h : AH} {n a b K z1 z2 : Nat} {f g : Nat → Int32} {ty : FieldType} {xs xd xn : Int32} (ha : h a = some (.inl (K, z1, .inl f))) (hb : h b = some (.inl (K, z2, .inl g))) (hK : (gT G)[K]? = some (gA G K, ty)) (hty : ((refKind ty != refKind ty) || (!refKind ty && ty != ty)) = false)
    (hbad : ¬ (¬ xs < 0 ∧ ¬ xd < 0 ∧ ¬ xn < 0 ∧ ¬ xs.toInt + xn.toInt > z1 ∧ ¬ xd.toInt + xn.toInt > z2))
    (U : State) (e : Env) (E : CtlPost) (hR : HR G h n U.heap) (hV : va_K (gD G) vwCl (gT G) U) (hE : ∀ acts', E (.throwNew "java/lang/ArrayIndexOutOfBoundsException" (some ("arraycopy: " ++ cpF ty ty z1 z2 xs xd xn))) acts' U) : wp (Native.java_lang_System.arraycopy.sem #[shv G (.ref a), .int xs, shv G (.ref b), .int xd, .int xn]) (fun _ _ _ _ => False) E e false [] U := by
  obtain ⟨c1, k1, m1, p1, p2, p3, p4, p5⟩ := wp_cells ha hK hR hV
  obtain ⟨c2, k2, m2, r1, r2, r3, r4, r5⟩ := wp_cells hb hK hR hV
  exact ac_bounds p1 r1 p2 r2 p3 r3 p4 r4 hty (by rw [p5, r5]; exact hbad) (by rw [p5, r5]; exact hE _)
theorem ht_copyN {pc : Nat} (h1 : 16 ≤ pc) (h2 : pc < 42) : HT yX0_copy pc "java/lang/NullPointerException" 45 := ⟨[], [(16, 42, 50, 377), (16, 42, 55, 379)], 16, 42, 371, _, by decide +kernel, h1, h2, by decide, q935, Or.inl rfl, fun z hz => by cases hz⟩
theorem ht_copyS {pc : Nat} (h1 : 16 ≤ pc) (h2 : pc < 42) : HT yX0_copy pc "java/lang/ArrayStoreException" 50 := ⟨[(16, 42, 45, 371)], [(16, 42, 55, 379)], 16, 42, 377, _, by decide +kernel, h1, h2, by decide, q1000, Or.inl rfl, fun z hz => by
  rcases List.mem_singleton.mp hz with rfl
  exact ⟨h1, h2, by decide, _, q935, by decide⟩⟩
theorem ht_copyO {pc : Nat} (h1 : 16 ≤ pc) (h2 : pc < 42) : HT yX0_copy pc "java/lang/ArrayIndexOutOfBoundsException" 55 := ⟨[(16, 42, 45, 371), (16, 42, 50, 377)], [], 16, 42, 379, _, by decide +kernel, h1, h2, by decide, q1014, Or.inr q1412, fun z hz => by
  rcases List.mem_cons.mp hz with rfl | hz
  · exact ⟨h1, h2, by decide, _, q935, by decide⟩
  · rcases List.mem_singleton.mp hz with rfl
    exact ⟨h1, h2, by decide, _, q1000, by decide⟩⟩
set_option maxHeartbeats 600000 in
theorem xc_copy {l : Launch} {G : GW} {h : AH} {n : Nat} (hfl : noTr l) {s sm : Nat → Int32} {F : Nat → Nat → Int32} {rr : Nat → Nat} (x1 : h 1 = some (XO s)) (sh : SHx F h n rr) (dd : rrD F rr) (h63 : 63 ≤ n) (hF : rwF F) (fr i to j nn : Int32) : AMW l G yX0_copy cX0_copy 7 (some .int) 300 3 4010 [.ref 1, .int fr, .int i, .int to, .int j, .int nn] h n (SPQ h n rr (cpyP sm F fr i to j nn)) := by
  refine AMW.of (L := [some (.ref 1), some (.int fr), some (.int i), some (.int to), some (.int j), some (.int nn), none]) (by decide) (Nat.le_of_ble_eq_true rfl) rfl ?_
  refine ew_iload_n (t := 1) dX0_copy_0 rfl rfl rfl ?_
  refine ew_callS (t := 4) (As := [_]) (ax_isSheet  _) (lw_S q802 q803 q51 q804) naX0_isSheet dX0_copy_1 rfl (Nat.le_of_ble_eq_true rfl) (Nat.le_of_ble_eq_true rfl) (by omega) (by omega) (Nat.le_of_ble_eq_true rfl) rfl (qi ?_)
  refine ew_if_eq (t := 14) (t2 := 7) dX0_copy_4 rfl rfl (fun c_4 => ?_) (fun c_4 => ?_)
  · refine ew_icm1 (t := 15) dX0_copy_14 rfl ?_
    exact ew_iret rfl dX0_copy_15 (by omega) (by omega) (by unfold cpyP; rw [if_pos c_4]; exact SPQ.same (d := 0) h63 sh dd)
  · refine ew_iload_n (t := 8) dX0_copy_7 rfl rfl rfl ?_
    refine ew_callS (t := 11) (As := [_]) (ax_isSheet  _) (lw_S q802 q803 q51 q804) naX0_isSheet dX0_copy_8 rfl (Nat.le_of_ble_eq_true rfl) (Nat.le_of_ble_eq_true rfl) (by omega) (by omega) (Nat.le_of_ble_eq_true rfl) rfl (qi ?_)
    refine ew_if_ne (t := 16) (t2 := 14) dX0_copy_11 rfl rfl (fun c_11 => ?_) (fun c_11 => ?_)
    · obtain ⟨t, -, ht, rfl⟩ := inI_nat (c := fr) (lo := 0) (hi := 3) (by omega) (by omega) (b2i_1.mp c_4)
      replace ht : t < 4 := by omega
      obtain ⟨u, -, hu, rfl⟩ := inI_nat (c := to) (lo := 0) (hi := 3) (by omega) (by omega) (b2i_1.mp c_11)
      replace hu : u < 4 := by omega
      have hQ : cpyP sm F (nI t) i (nI u) j nn = if F 59 t < 0 then (-11, sm, F) else if 0 ≤ F 59 u then (if F 59 t = F 59 u then (if nn < 0 then (-13, sm, F) else if refI (F 59) (F 60) t (F 59 t) i nn < 0 then (-13, sm, F) else if 0 ≤ refI (F 59) (F 60) u (F 59 u) j nn then (nn, sm, va_up F 61 (cpI (F 61) (fun k => F 61 (16 * t + i.toNatClampNeg + k)) (16 * u + j.toNatClampNeg) nn.toNatClampNeg)) else (-13, sm, F)) else (-12, sm, F)) else (-11, sm, F) := by
        unfold cpyP
        rw [if_neg c_4, if_pos c_11, nI_clamp (n := t) (by omega), nI_clamp (n := u) (by omega)]
      have HN : cpyP sm F (nI t) i (nI u) j nn = (-11, sm, F) → ENN l G yX0_copy cX0_copy 7 (some .int) 300 3 4010 (SPQ h n rr (cpyP sm F (nI t) i (nI u) j nn)) 0 0 h n 39 [some (.ref 1), some (.int (nI t)), some (.int i), some (.int (nI u)), some (.int j), some (.int nn), none] "java/lang/NullPointerException" none := by
        intro hr
        refine nn_npe hfl (by omega) (by omega) (by omega) (ht_copyN (by omega) (by omega)) ?_
        refine ew_astore (t := 47) (L' := [some (.ref 1), some (.int (nI t)), some (.int i), some (.int (nI u)), some (.int j), some (.int nn), some (.ref n)]) dX0_copy_45 (Nat.le_of_ble_eq_true rfl) rfl rfl ?_
        refine ew_bipush (t := 49) (v := (-11)) dX0_copy_47 (by decide) rfl ?_
        exact ew_iret rfl dX0_copy_49 (by omega) (by omega) (by rw [hr]; exact SPQ.same h63 sh dd)
      have HC : cpyP sm F (nI t) i (nI u) j nn = (-12, sm, F) → ∀ t1 t2, lnT t1 = lnT t1 → ENN l G yX0_copy cX0_copy 7 (some .int) 300 3 4010 (SPQ h n rr (cpyP sm F (nI t) i (nI u) j nn)) 0 0 h n 39 [some (.ref 1), some (.int (nI t)), some (.int i), some (.int (nI u)), some (.int j), some (.int nn), none] "java/lang/ArrayStoreException" (some (cpM (lnT t1) (lnT t2))) := by
        intro hr t1 t2 _
        refine nn_msg hfl (by omega) (by omega) (by omega) (names := ["java/lang/RuntimeException", "java/lang/Exception"]) (by decide) (by decide) (by decide) (by decide) (by decide) (fun C => at_ase C) (cpM_ok lnT_3 lnT_3).1 (cpM_ok lnT_3 lnT_3).2 (ht_copyS (by omega) (by omega)) ?_
        refine ew_astore (t := 52) (L' := [some (.ref 1), some (.int (nI t)), some (.int i), some (.int (nI u)), some (.int j), some (.int nn), some (.ref (n + 2))]) dX0_copy_50 (Nat.le_of_ble_eq_true rfl) rfl rfl ?_
        refine ew_bipush (t := 54) (v := (-12)) dX0_copy_52 (by decide) rfl ?_
        exact ew_iret rfl dX0_copy_54 (by omega) (by omega) (by rw [hr]; exact SPQ.same h63 sh dd)
      have HO : cpyP sm F (nI t) i (nI u) j nn = (-13, sm, F) → ∀ w : String, w.toList.length ≤ 200 → ENN l G yX0_copy cX0_copy 7 (some .int) 300 3 4010 (SPQ h n rr (cpyP sm F (nI t) i (nI u) j nn)) 0 0 h n 39 [some (.ref 1), some (.int (nI t)), some (.int i), some (.int (nI u)), some (.int j), some (.int nn), none] "java/lang/ArrayIndexOutOfBoundsException" (some ("arraycopy: " ++ w)) := by
        intro hr w hw
        refine nn_msg hfl (by omega) (by omega) (by omega) (names := ["java/lang/IndexOutOfBoundsException", "java/lang/RuntimeException", "java/lang/Exception"]) (by decide) (by decide) (by decide) (by decide) (by decide) (fun C => at_aio C) (ac_text hw).1 (ac_text hw).2 (ht_copyO (by omega) (by omega)) ?_
        refine ew_astore (t := 57) (L' := [some (.ref 1), some (.int (nI t)), some (.int i), some (.int (nI u)), some (.int j), some (.int nn), some (.ref (n + 2))]) dX0_copy_55 (Nat.le_of_ble_eq_true rfl) rfl rfl ?_
        refine ew_bipush (t := 59) (v := (-13)) dX0_copy_57 (by decide) rfl ?_
        exact ew_iret rfl dX0_copy_59 (by omega) (by omega) (by rw [hr]; exact SPQ.same h63 sh dd)
      rcases sh.2 t ht with ⟨q1, q2⟩ | ⟨ln, z, f, q1, q2, q3, q4, q5, q6, q7, q8, q9⟩
      · have hr : cpyP sm F (nI t) i (nI u) j nn = (-11, sm, F) := by rw [hQ, if_pos q1]
        refine ew_aload_n (t := 17) dX0_copy_16 rfl rfl rfl ?_
        refine ew_get (t := 20) (j := 20) (v := .ref 28) fcX0 x1 (Nat.le_of_ble_eq_true rfl) q282 rfl dX0_copy_17 rfl ?_
        refine ew_iload_n (t := 21) dX0_copy_20 rfl rfl rfl ?_
        refine ew_aald6 (t := 22) (j := t) sh.1 (vp_in_nI ht (by omega)) (nI_clamp (by omega)) dX0_copy_21 rfl ?_
        rw [show va_rf (shT t) = .ref (29 + t) from rfl]
        refine ew_getN (t := 25) (j := 0) (v := .null) fcX3 q2 (Nat.le_of_ble_eq_true rfl) q248 rfl dX0_copy_22 rfl ?_
        refine ew_iload_n (t := 26) dX0_copy_25 rfl rfl rfl ?_
        have hb : ∃ v, seenV (shv G v) ∧ h (29 + u) = some (OB 3 [v]) := by
          rcases sh.2 u hu with ⟨-, q⟩ | ⟨_, _, _, -, -, -, -, -, -, q, -⟩
          · exact ⟨.null, trivial, q⟩
          · exact ⟨.ref (rr u), trivial, q⟩
        obtain ⟨v, hv, q7⟩ := hb
        refine ew_aload_n (t := 27) dX0_copy_26 rfl rfl rfl ?_
        refine ew_get (t := 30) (j := 20) (v := .ref 28) fcX0 x1 (Nat.le_of_ble_eq_true rfl) q282 rfl dX0_copy_27 rfl ?_
        refine ew_iload_n (t := 31) dX0_copy_30 rfl rfl rfl ?_
        refine ew_aald6 (t := 32) (j := u) sh.1 (vp_in_nI hu (by omega)) (nI_clamp (by omega)) dX0_copy_31 rfl ?_
        rw [show va_rf (shT u) = .ref (29 + u) from rfl]
        refine ew_getN (t := 35) (j := 0) (v := v) fcX3 q7 (Nat.le_of_ble_eq_true rfl) q248 rfl dX0_copy_32 rfl ?_
        refine ew_iload (t := 37) dX0_copy_35 rfl rfl ?_
        refine ew_iload (t := 39) dX0_copy_37 rfl rfl ?_
        exact ew_copyX q357 q359 q358 q61 (fun U e E _ _ hE => ac_null1 _ _ _ _ (hE _)) trivial hv dX0_copy_39 (by omega) (Nat.le_of_ble_eq_true rfl) (HN hr)
      have hn0 : 0 ≤ F 59 t := by rw [q3]; exact nI_nn (by omega)
      refine ew_aload_n (t := 17) dX0_copy_16 rfl rfl rfl ?_
      refine ew_get (t := 20) (j := 20) (v := .ref 28) fcX0 x1 (Nat.le_of_ble_eq_true rfl) q282 rfl dX0_copy_17 rfl ?_
      refine ew_iload_n (t := 21) dX0_copy_20 rfl rfl rfl ?_
      refine ew_aald6 (t := 22) (j := t) sh.1 (vp_in_nI ht (by omega)) (nI_clamp (by omega)) dX0_copy_21 rfl ?_
      rw [show va_rf (shT t) = .ref (29 + t) from rfl]
      refine ew_getN (t := 25) (j := 0) (v := .ref (rr t)) fcX3 q7 (Nat.le_of_ble_eq_true rfl) q248 rfl dX0_copy_22 rfl ?_
      refine ew_iload_n (t := 26) dX0_copy_25 rfl rfl rfl ?_
      rcases sh.2 u hu with ⟨p1, p2⟩ | ⟨l2, z2, g, p1, p2, p3, p4, p5, p6, p7, p8, p9⟩
      · have hr : cpyP sm F (nI t) i (nI u) j nn = (-11, sm, F) := by rw [hQ, if_neg (Int32.not_lt.mpr hn0), if_neg (Int32.not_le.mpr p1)]
        refine ew_aload_n (t := 27) dX0_copy_26 rfl rfl rfl ?_
        refine ew_get (t := 30) (j := 20) (v := .ref 28) fcX0 x1 (Nat.le_of_ble_eq_true rfl) q282 rfl dX0_copy_27 rfl ?_
        refine ew_iload_n (t := 31) dX0_copy_30 rfl rfl rfl ?_
        refine ew_aald6 (t := 32) (j := u) sh.1 (vp_in_nI hu (by omega)) (nI_clamp (by omega)) dX0_copy_31 rfl ?_
        rw [show va_rf (shT u) = .ref (29 + u) from rfl]
        refine ew_getN (t := 35) (j := 0) (v := .null) fcX3 p2 (Nat.le_of_ble_eq_true rfl) q248 rfl dX0_copy_32 rfl ?_
        refine ew_iload (t := 37) dX0_copy_35 rfl rfl ?_
        refine ew_iload (t := 39) dX0_copy_37 rfl rfl ?_
        exact ew_copyX q357 q359 q358 q61 (fun U e E _ _ hE => ac_null2 _ _ _ _ (hE _)) trivial trivial dX0_copy_39 (by omega) (Nat.le_of_ble_eq_true rfl) (HN hr)
      have hn1 : 0 ≤ F 59 u := by rw [p3]; exact nI_nn (by omega)
      refine ew_aload_n (t := 27) dX0_copy_26 rfl rfl rfl ?_
      refine ew_get (t := 30) (j := 20) (v := .ref 28) fcX0 x1 (Nat.le_of_ble_eq_true rfl) q282 rfl dX0_copy_27 rfl ?_
      refine ew_iload_n (t := 31) dX0_copy_30 rfl rfl rfl ?_
      refine ew_aald6 (t := 32) (j := u) sh.1 (vp_in_nI hu (by omega)) (nI_clamp (by omega)) dX0_copy_31 rfl ?_
      rw [show va_rf (shT u) = .ref (29 + u) from rfl]
      refine ew_getN (t := 35) (j := 0) (v := .ref (rr u)) fcX3 p7 (Nat.le_of_ble_eq_true rfl) q248 rfl dX0_copy_32 rfl ?_
      refine ew_iload (t := 37) dX0_copy_35 rfl rfl ?_
      refine ew_iload (t := 39) dX0_copy_37 rfl rfl ?_
      rw [rwA_in q1] at q8
      rw [rwA_in p1] at p8
      by_cases hll : ln = l2
      · subst hll
        have hQ2 : cpyP sm F (nI t) i (nI u) j nn = if nn < 0 then (-13, sm, F) else if refI (F 59) (F 60) t (F 59 t) i nn < 0 then (-13, sm, F) else if 0 ≤ refI (F 59) (F 60) u (F 59 u) j nn then (nn, sm, va_up F 61 (cpI (F 61) (fun k => F 61 (16 * t + i.toNatClampNeg + k)) (16 * u + j.toNatClampNeg) nn.toNatClampNeg)) else (-13, sm, F) := by
          rw [hQ, if_neg (Int32.not_lt.mpr hn0), if_pos hn1, if_pos (q3.trans p3.symm)]
        by_cases hbad : ¬ (¬ i < 0 ∧ ¬ j < 0 ∧ ¬ nn < 0 ∧ ¬ i.toInt + nn.toInt > z ∧ ¬ j.toInt + nn.toInt > z2)
        · refine ew_copyX q357 q359 q358 q61 (wp_bounds q8 p8 (gT_ln q1) lnT_eq hbad) trivial trivial dX0_copy_39 (by omega) (Nat.le_of_ble_eq_true rfl) (HO ?_ _ (cpF_len (by omega) (by omega)))
          rw [hQ2]
          by_cases c1 : nn < 0
          · rw [if_pos c1]
          obtain ⟨k, hk, rfl⟩ := nI_of c1
          rw [if_neg c1]
          by_cases c2 : ∀ x, i = nI x → x < 2 ^ 31 → ¬ x + k ≤ z
          · rw [if_pos (by rw [refI_2g hk q2 q4 hn0 c2]; decide)]
          · have c3 : ∀ x, j = nI x → x < 2 ^ 31 → ¬ x + k ≤ z2 := by
              intro x hx hx2 hle
              refine hbad ⟨fun ci => c2 (fun x2 hx2 _ => ?_), fun cj => ?_, c1, fun ci => c2 (fun x2 hx2 hx3 hle2 => ?_), fun cj => ?_⟩
              · subst hx2; exact absurd ci (Int32.not_lt.mpr (nI_nn (by omega)))
              · subst hx; exact absurd cj (Int32.not_lt.mpr (nI_nn (by omega)))
              · subst hx2; rw [nI_toInt hx3, nI_toInt hk] at ci; omega
              · subst hx; rw [nI_toInt hx2, nI_toInt hk] at cj; omega
            have e2 : refI (F 59) (F 60) u (F 59 u) j (nI k) = -13 := refI_2g hk p2 p4 hn1 c3
            rw [e2, if_neg (show ¬ (0 : Int32) ≤ -13 by decide)]
            exact ite_self _
        · have hb := Decidable.not_not.mp hbad
          obtain ⟨b1, b2, b3, b4, b5⟩ := hb
          obtain ⟨x, hx, rfl⟩ := nI_of b1
          obtain ⟨v, hv, rfl⟩ := nI_of b2
          obtain ⟨k, hk, rfl⟩ := nI_of b3
          rw [nI_toInt hx, nI_toInt hk] at b4
          rw [nI_toInt hv, nI_toInt hk] at b5
          refine ew_copyI (t := 42) (K := lnK ln) (ty := lnT ln) (sp := x) (dp := v) (N := k) (h' := (hov h [(rr u, .inl (lnK ln, z2, .inl (va_cpy f g x v k)))])) q357 q359 q358 q61 q8 p8 (gT_ln q1) lnT_p b1 b2 b3 (nI_clamp hx) (nI_clamp hv) (nI_clamp hk) (by omega) (by omega) (fun o ho => by rw [q9 (x + o) (by omega)]; exact hF t ht ln q1 q3 (x + o) (by omega)) dX0_copy_39 (by omega) (Nat.le_of_ble_eq_true rfl) hov_up0 rfl ?_
          refine ew_goto (t := 60) dX0_copy_42 rfl ?_
          refine ew_iload (t := 62) dX0_copy_60 rfl rfl ?_
          refine ew_iret rfl dX0_copy_62 (by omega) (by omega) ?_
          rw [hQ2, if_neg b3, refI_3 (m := k) q2 q4 hn0 rfl (by omega), if_neg (by decide), refI_3 (m := k) p2 p4 hn1 rfl (by omega), if_pos (by decide), nI_clamp hx, nI_clamp hv, nI_clamp hk, ← rwA_in q1]
          refine SPQ.upd1 sh dd hu q1 p2 p3 p4 p5 p6 p7 (fun o ho => ?_) (fun q hq => cpI_off _ _ (by omega))
          unfold va_cpy
          by_cases co : v ≤ o ∧ o < v + k
          · rw [if_pos co, cpI_at _ _ (by omega) (by omega), q9 _ (by omega)]
            congr 1
            omega
          · rw [if_neg co, cpI_off _ _ (by omega)]; exact p9 o ho
      · have hr : cpyP sm F (nI t) i (nI u) j nn = (-12, sm, F) := by rw [hQ, if_neg (Int32.not_lt.mpr hn0), if_pos hn1, if_neg (fun c => hll (nI_inj (by omega) (by omega) (q3.symm.trans (c.trans p3))))]
        exact ew_copyX q357 q359 q358 q61 (wp_types q8 p8 (gT_ln q1) (gT_ln p1) (lnT_no q1 p1 hll)) trivial trivial dX0_copy_39 (by omega) (Nat.le_of_ble_eq_true rfl) (HC hr ln l2 rfl)
    · refine ew_icm1 (t := 15) dX0_copy_14 rfl ?_
      exact ew_iret rfl dX0_copy_15 (by omega) (by omega) (by unfold cpyP; rw [if_neg c_4, if_neg (not_not_intro c_11)]; exact SPQ.same (d := 0) h63 sh dd)
