-- Obj fields dict_keys(['cls', 'fun', 'sname', 'refs', 'extra', 'ups'])
/-! the component's constructor -/
set_option maxRecDepth 100000
theorem arr_extR {cA : ClassId} {N : Nat} {f g : Nat → Option Nat} (h : ∀ j, j < N → f j = g j) : vp_cell cA (N, .inr (.inr (.inr (.inr f)))) = vp_cell cA (N, .inr (.inr (.inr (.inr g)))) := by
  show arrV cA N (fun j => va_rf (f j)) = arrV cA N (fun j => va_rf (g j))
  unfold arrV
  congr 2
  funext j
  show va_rf (f j.val) = va_rf (g j.val)
  rw [h j.val j.isLt]
theorem HR.arrS {G : GW} {h : AH} {n : Nat} {H : Heap} (hR : HR G h n H) {a N : Nat} {f g : Nat → Option Nat} (ha : h a = some (RS N f)) (hf : ∀ j, j < N → f j = g j) : HR G (va_up h a (some (RS N g))) n H := by
  refine hR.set _ ha ?_ rfl (fun _ _ => rfl)
  have h1 : H[rho G a]? = some (vp_cell (gA G 6) (N, .inr (.inr (.inr (.inr (fun j => (f j).map (rho G))))))) := hR.2.2.2 a _ ha
  show H[rho G a]? = some (vp_cell (gA G 6) (N, .inr (.inr (.inr (.inr (fun j => (g j).map (rho G)))))))
  rw [← arr_extR (f := fun j => (f j).map (rho G)) (fun j hj => by rw [hf j hj])]
  exact h1
theorem EW.arrS {l : Launch} {G : GW} {y : MethodName} {cc : ByteArray} {nL : Nat} {ret : Option FieldType} {fr mc ms : Nat} {Q : Option Value → AH → Nat → Prop} {k sl : Nat} {h h' : AH} {n pc : Nat} {L : List (Option Value)} {st : List Value} {a N : Nat} {f : Nat → Option Nat} (g : Nat → Option Nat) (ha : h a = some (RS N f)) (hf : ∀ j, j < N → f j = g j) (hu : va_up h a (some (RS N g)) = h') (kk : EW l G y cc nL ret fr mc ms Q k sl h' n pc L st) : EW l G y cc nL ret fr mc ms Q k sl h n pc L st := by
  subst hu
  intro p e s m args below meth c C1 H locs ls hR hS hl
  exact kk p e s m args below meth c C1 H locs ls (hR.arrS ha hf) hS hl
/-- the component as it is made -/
def XI0 (h : AH) : Prop := h 1 = some (XO (fun _ => 0)) ∧ XTd 2 iF h ∧ h 9 = some (OB 12 [.int 0, .ref 0, .int 0]) ∧ h 10 = some (OB 12 [.int 0, .ref 0, .int 0]) ∧ h 11 = some (FO 0) ∧ h 12 = some (BA 60 (fun _ => 0)) ∧ scX h ∧ XTd 19 iF h ∧ h 26 = some (OB 12 [.int 0, .ref 0, .int 0]) ∧ h 27 = some (OB 12 [.int 0, .ref 0, .int 0]) ∧ h 28 = some (RS 4 shT) ∧ ∀ t, t < 4 → h (29 + t) = some (OB 3 [.null])
set_option maxHeartbeats 600000 in
theorem xc_init {l : Launch} {G : GW} {h : AH} (x1 : h 1 = some (OB 0 [.null, .null, .null, .int 0, .int 0, .null, .null, .null, .null, .int 0, .int 0, .int 0, .int 0, .int 0, .int 0, .int 0, .null, .null, .int 0, .null, .null])) : AM l G yX0_init cX0_init 2 none 5 31 1403 [.ref 1] h 2 (fun r h' n' => r = none ∧ n' = 33 ∧ XI0 h') := by
  refine AM.of (L := [some (.ref 1), none]) (by decide) (Nat.le_of_ble_eq_true rfl) rfl ?_
  refine ew_aload_n (t := 1) dX0_init_0 rfl rfl rfl ?_
  refine ew_objInit (t := 4) q88 q89 q90 dX0_init_1 (by decide) (by decide) rfl ?_
  refine ew_aload_n (t := 5) dX0_init_4 rfl rfl rfl ?_
  refine ew_new (t := 8) (fs := [.null, .null, .null, .null, .null, .null, .null, .null]) (h' := (hov h [(2, OB 1 [.null, .null, .null, .null, .null, .null, .null, .null])])) fcX1 dX0_init_5 q91 q92 q52 (by decide) (by decide) rfl (hov_up0) rfl ?_
  refine EW.cnt (k' := 1) (sl' := 8) (n' := 3) rfl rfl rfl ?_
  refine ew_dup (t := 9) dX0_init_8 rfl rfl ?_
  refine ew_callI (t := 12) (As := []) (xt_init2 (h := (hov h [(2, OB 1 [.null, .null, .null, .null, .null, .null, .null, .null])])) rfl) q93 q94 q52 q95 rfl naX1_init dX0_init_9 rfl (Nat.le_of_ble_eq_true rfl) (Nat.le_of_ble_eq_true rfl) (by omega) (by omega) (Nat.le_of_ble_eq_true rfl) rfl (fun r h2 n1 q => ?_)
  obtain ⟨rfl, rfl, xt2, li2, lj2, hk2⟩ := q
  have y2_1 : h2 1 = some (OB 0 [.null, .null, .null, .int 0, .int 0, .null, .null, .null, .null, .int 0, .int 0, .int 0, .int 0, .int 0, .int 0, .int 0, .null, .null, .int 0, .null, .null]) := (hk2 1 (by omega)).trans (by first | rfl | exact x1)
  have y2_2 := xt2.1
  refine EW.cnt (k' := 9) (sl' := 536) (n' := 11) rfl rfl rfl ?_
  refine ew_putF (t := 15) (j := 0) (fs' := [.ref 2, .null, .null, .int 0, .int 0, .null, .null, .null, .null, .int 0, .int 0, .int 0, .int 0, .int 0, .int 0, .int 0, .null, .null, .int 0, .null, .null]) (h' := (hov h2 [(1, OB 0 [.ref 2, .null, .null, .int 0, .int 0, .null, .null, .null, .null, .int 0, .int 0, .int 0, .int 0, .int 0, .int 0, .int 0, .null, .null, .int 0, .null, .null])])) fcX0 y2_1 (Nat.le_of_ble_eq_true rfl) rfl rfl rfl q255 rfl rfl (Nat.le_of_ble_eq_true rfl) rfl dX0_init_12 (hov_up0) rfl ?_
  refine ew_aload_n (t := 16) dX0_init_15 rfl rfl rfl ?_
  refine ew_new (t := 19) (fs := [.null, .null, .null, .null, .null, .int 0, .int 0]) (h' := (hov h2 [(1, OB 0 [.ref 2, .null, .null, .int 0, .int 0, .null, .null, .null, .null, .int 0, .int 0, .int 0, .int 0, .int 0, .int 0, .int 0, .null, .null, .int 0, .null, .null]), (11, OB 2 [.null, .null, .null, .null, .null, .int 0, .int 0])])) fcX2 dX0_init_16 q160 q161 q58 (by decide) (by decide) rfl (hov_up rfl) rfl ?_
  refine EW.cnt (k' := 10) (sl' := 543) (n' := 12) rfl rfl rfl ?_
  refine ew_dup (t := 20) dX0_init_19 rfl rfl ?_
  refine ew_callI (t := 23) (As := []) (at_fault (c := 11) (h := (hov h2 [(1, OB 0 [.ref 2, .null, .null, .int 0, .int 0, .null, .null, .null, .null, .int 0, .int 0, .int 0, .int 0, .int 0, .int 0, .int 0, .null, .null, .int 0, .null, .null]), (11, OB 2 [.null, .null, .null, .null, .null, .int 0, .int 0])])) rfl) q215 q216 q58 q217 rfl naX2_init dX0_init_20 rfl (Nat.le_of_ble_eq_true rfl) (Nat.le_of_ble_eq_true rfl) (by omega) (by omega) (Nat.le_of_ble_eq_true rfl) rfl (qv ?_)
  refine EW.heap (h' := (hov h2 [(1, OB 0 [.ref 2, .null, .null, .int 0, .int 0, .null, .null, .null, .null, .int 0, .int 0, .int 0, .int 0, .int 0, .int 0, .int 0, .null, .null, .int 0, .null, .null]), (11, OB 2 [.null, .null, .null, .null, .null, .int 0, .int 0])])) (hov_hov _ _ rfl) ?_
  refine ew_putF (t := 26) (j := 1) (fs' := [.ref 2, .ref 11, .null, .int 0, .int 0, .null, .null, .null, .null, .int 0, .int 0, .int 0, .int 0, .int 0, .int 0, .int 0, .null, .null, .int 0, .null, .null]) (h' := (hov h2 [(1, OB 0 [.ref 2, .ref 11, .null, .int 0, .int 0, .null, .null, .null, .null, .int 0, .int 0, .int 0, .int 0, .int 0, .int 0, .int 0, .null, .null, .int 0, .null, .null]), (11, OB 2 [.null, .null, .null, .null, .null, .int 0, .int 0])])) fcX0 rfl (Nat.le_of_ble_eq_true rfl) rfl rfl rfl q256 rfl rfl (Nat.le_of_ble_eq_true rfl) rfl dX0_init_23 (hov_up rfl) rfl ?_
  refine ew_aload_n (t := 27) dX0_init_26 rfl rfl rfl ?_
  refine ew_bipush (t := 29) (v := 60) dX0_init_27 (by decide) rfl ?_
  refine ew_newB (t := 31) (N := 60) (h' := (hov h2 [(1, OB 0 [.ref 2, .ref 11, .null, .int 0, .int 0, .null, .null, .null, .null, .int 0, .int 0, .int 0, .int 0, .int 0, .int 0, .int 0, .null, .null, .int 0, .null, .null]), (11, OB 2 [.null, .null, .null, .null, .null, .int 0, .int 0]), (12, BA 60 (fun _ => 0))])) dX0_init_29 q124 (by decide) (by decide) (by decide) (by decide) (by decide) (hov_up rfl) rfl ?_
  refine EW.cnt (k' := 11) (sl' := 603) (n' := 13) rfl rfl rfl ?_
  refine ew_putF (t := 34) (j := 2) (fs' := [.ref 2, .ref 11, .ref 12, .int 0, .int 0, .null, .null, .null, .null, .int 0, .int 0, .int 0, .int 0, .int 0, .int 0, .int 0, .null, .null, .int 0, .null, .null]) (h' := (hov h2 [(1, OB 0 [.ref 2, .ref 11, .ref 12, .int 0, .int 0, .null, .null, .null, .null, .int 0, .int 0, .int 0, .int 0, .int 0, .int 0, .int 0, .null, .null, .int 0, .null, .null]), (11, OB 2 [.null, .null, .null, .null, .null, .int 0, .int 0]), (12, BA 60 (fun _ => 0))])) fcX0 rfl (Nat.le_of_ble_eq_true rfl) rfl rfl rfl q257 rfl rfl (Nat.le_of_ble_eq_true rfl) rfl dX0_init_31 (hov_up rfl) rfl ?_
  refine ew_aload_n (t := 35) dX0_init_34 rfl rfl rfl ?_
  refine ew_bipush (t := 37) (v := 7) dX0_init_35 (by decide) rfl ?_
  refine ew_newI (t := 39) (N := 7) (h' := (hov h2 [(1, OB 0 [.ref 2, .ref 11, .ref 12, .int 0, .int 0, .null, .null, .null, .null, .int 0, .int 0, .int 0, .int 0, .int 0, .int 0, .int 0, .null, .null, .int 0, .null, .null]), (11, OB 2 [.null, .null, .null, .null, .null, .int 0, .int 0]), (12, BA 60 (fun _ => 0)), (13, IA 7 (fun _ => 0))])) dX0_init_37 q123 (by decide) (by decide) (by decide) (by decide) (by decide) (hov_up rfl) rfl ?_
  refine EW.cnt (k' := 12) (sl' := 610) (n' := 14) rfl rfl rfl ?_
  refine ew_putF (t := 42) (j := 5) (fs' := [.ref 2, .ref 11, .ref 12, .int 0, .int 0, .ref 13, .null, .null, .null, .int 0, .int 0, .int 0, .int 0, .int 0, .int 0, .int 0, .null, .null, .int 0, .null, .null]) (h' := (hov h2 [(1, OB 0 [.ref 2, .ref 11, .ref 12, .int 0, .int 0, .ref 13, .null, .null, .null, .int 0, .int 0, .int 0, .int 0, .int 0, .int 0, .int 0, .null, .null, .int 0, .null, .null]), (11, OB 2 [.null, .null, .null, .null, .null, .int 0, .int 0]), (12, BA 60 (fun _ => 0)), (13, IA 7 (fun _ => 0))])) fcX0 rfl (Nat.le_of_ble_eq_true rfl) rfl rfl rfl q260 rfl rfl (Nat.le_of_ble_eq_true rfl) rfl dX0_init_39 (hov_up rfl) rfl ?_
  refine ew_aload_n (t := 43) dX0_init_42 rfl rfl rfl ?_
  refine ew_bipush (t := 45) (v := 7) dX0_init_43 (by decide) rfl ?_
  refine ew_newI (t := 47) (N := 7) (h' := (hov h2 [(1, OB 0 [.ref 2, .ref 11, .ref 12, .int 0, .int 0, .ref 13, .null, .null, .null, .int 0, .int 0, .int 0, .int 0, .int 0, .int 0, .int 0, .null, .null, .int 0, .null, .null]), (11, OB 2 [.null, .null, .null, .null, .null, .int 0, .int 0]), (12, BA 60 (fun _ => 0)), (13, IA 7 (fun _ => 0)), (14, IA 7 (fun _ => 0))])) dX0_init_45 q123 (by decide) (by decide) (by decide) (by decide) (by decide) (hov_up rfl) rfl ?_
  refine EW.cnt (k' := 13) (sl' := 617) (n' := 15) rfl rfl rfl ?_
  refine ew_putF (t := 50) (j := 6) (fs' := [.ref 2, .ref 11, .ref 12, .int 0, .int 0, .ref 13, .ref 14, .null, .null, .int 0, .int 0, .int 0, .int 0, .int 0, .int 0, .int 0, .null, .null, .int 0, .null, .null]) (h' := (hov h2 [(1, OB 0 [.ref 2, .ref 11, .ref 12, .int 0, .int 0, .ref 13, .ref 14, .null, .null, .int 0, .int 0, .int 0, .int 0, .int 0, .int 0, .int 0, .null, .null, .int 0, .null, .null]), (11, OB 2 [.null, .null, .null, .null, .null, .int 0, .int 0]), (12, BA 60 (fun _ => 0)), (13, IA 7 (fun _ => 0)), (14, IA 7 (fun _ => 0))])) fcX0 rfl (Nat.le_of_ble_eq_true rfl) rfl rfl rfl q261 rfl rfl (Nat.le_of_ble_eq_true rfl) rfl dX0_init_47 (hov_up rfl) rfl ?_
  refine ew_aload_n (t := 51) dX0_init_50 rfl rfl rfl ?_
  refine ew_bipush (t := 53) (v := 10) dX0_init_51 (by decide) rfl ?_
  refine ew_newB (t := 55) (N := 10) (h' := (hov h2 [(1, OB 0 [.ref 2, .ref 11, .ref 12, .int 0, .int 0, .ref 13, .ref 14, .null, .null, .int 0, .int 0, .int 0, .int 0, .int 0, .int 0, .int 0, .null, .null, .int 0, .null, .null]), (11, OB 2 [.null, .null, .null, .null, .null, .int 0, .int 0]), (12, BA 60 (fun _ => 0)), (13, IA 7 (fun _ => 0)), (14, IA 7 (fun _ => 0)), (15, BA 10 (fun _ => 0))])) dX0_init_53 q124 (by decide) (by decide) (by decide) (by decide) (by decide) (hov_up rfl) rfl ?_
  refine EW.cnt (k' := 14) (sl' := 627) (n' := 16) rfl rfl rfl ?_
  refine ew_putF (t := 58) (j := 7) (fs' := [.ref 2, .ref 11, .ref 12, .int 0, .int 0, .ref 13, .ref 14, .ref 15, .null, .int 0, .int 0, .int 0, .int 0, .int 0, .int 0, .int 0, .null, .null, .int 0, .null, .null]) (h' := (hov h2 [(1, OB 0 [.ref 2, .ref 11, .ref 12, .int 0, .int 0, .ref 13, .ref 14, .ref 15, .null, .int 0, .int 0, .int 0, .int 0, .int 0, .int 0, .int 0, .null, .null, .int 0, .null, .null]), (11, OB 2 [.null, .null, .null, .null, .null, .int 0, .int 0]), (12, BA 60 (fun _ => 0)), (13, IA 7 (fun _ => 0)), (14, IA 7 (fun _ => 0)), (15, BA 10 (fun _ => 0))])) fcX0 rfl (Nat.le_of_ble_eq_true rfl) rfl rfl rfl q262 rfl rfl (Nat.le_of_ble_eq_true rfl) rfl dX0_init_55 (hov_up rfl) rfl ?_
  refine ew_aload_n (t := 59) dX0_init_58 rfl rfl rfl ?_
  refine ew_bipush (t := 61) (v := 7) dX0_init_59 (by decide) rfl ?_
  refine ew_newI (t := 63) (N := 7) (h' := (hov h2 [(1, OB 0 [.ref 2, .ref 11, .ref 12, .int 0, .int 0, .ref 13, .ref 14, .ref 15, .null, .int 0, .int 0, .int 0, .int 0, .int 0, .int 0, .int 0, .null, .null, .int 0, .null, .null]), (11, OB 2 [.null, .null, .null, .null, .null, .int 0, .int 0]), (12, BA 60 (fun _ => 0)), (13, IA 7 (fun _ => 0)), (14, IA 7 (fun _ => 0)), (15, BA 10 (fun _ => 0)), (16, IA 7 (fun _ => 0))])) dX0_init_61 q123 (by decide) (by decide) (by decide) (by decide) (by decide) (hov_up rfl) rfl ?_
  refine EW.cnt (k' := 15) (sl' := 634) (n' := 17) rfl rfl rfl ?_
  refine ew_putF (t := 66) (j := 8) (fs' := [.ref 2, .ref 11, .ref 12, .int 0, .int 0, .ref 13, .ref 14, .ref 15, .ref 16, .int 0, .int 0, .int 0, .int 0, .int 0, .int 0, .int 0, .null, .null, .int 0, .null, .null]) (h' := (hov h2 [(1, OB 0 [.ref 2, .ref 11, .ref 12, .int 0, .int 0, .ref 13, .ref 14, .ref 15, .ref 16, .int 0, .int 0, .int 0, .int 0, .int 0, .int 0, .int 0, .null, .null, .int 0, .null, .null]), (11, OB 2 [.null, .null, .null, .null, .null, .int 0, .int 0]), (12, BA 60 (fun _ => 0)), (13, IA 7 (fun _ => 0)), (14, IA 7 (fun _ => 0)), (15, BA 10 (fun _ => 0)), (16, IA 7 (fun _ => 0))])) fcX0 rfl (Nat.le_of_ble_eq_true rfl) rfl rfl rfl q267 rfl rfl (Nat.le_of_ble_eq_true rfl) rfl dX0_init_63 (hov_up rfl) rfl ?_
  refine ew_aload_n (t := 67) dX0_init_66 rfl rfl rfl ?_
  refine ew_bipush (t := 69) (v := 100) dX0_init_67 (by decide) rfl ?_
  refine ew_newJ (t := 71) (N := 100) (h' := (hov h2 [(1, OB 0 [.ref 2, .ref 11, .ref 12, .int 0, .int 0, .ref 13, .ref 14, .ref 15, .ref 16, .int 0, .int 0, .int 0, .int 0, .int 0, .int 0, .int 0, .null, .null, .int 0, .null, .null]), (11, OB 2 [.null, .null, .null, .null, .null, .int 0, .int 0]), (12, BA 60 (fun _ => 0)), (13, IA 7 (fun _ => 0)), (14, IA 7 (fun _ => 0)), (15, BA 10 (fun _ => 0)), (16, IA 7 (fun _ => 0)), (17, JA 100 (fun _ => 0))])) dX0_init_69 q252 (by decide) (by decide) (by decide) (by decide) (by decide) (hov_up rfl) rfl ?_
  refine EW.cnt (k' := 16) (sl' := 734) (n' := 18) rfl rfl rfl ?_
  refine ew_putF (t := 74) (j := 16) (fs' := [.ref 2, .ref 11, .ref 12, .int 0, .int 0, .ref 13, .ref 14, .ref 15, .ref 16, .int 0, .int 0, .int 0, .int 0, .int 0, .int 0, .int 0, .ref 17, .null, .int 0, .null, .null]) (h' := (hov h2 [(1, OB 0 [.ref 2, .ref 11, .ref 12, .int 0, .int 0, .ref 13, .ref 14, .ref 15, .ref 16, .int 0, .int 0, .int 0, .int 0, .int 0, .int 0, .int 0, .ref 17, .null, .int 0, .null, .null]), (11, OB 2 [.null, .null, .null, .null, .null, .int 0, .int 0]), (12, BA 60 (fun _ => 0)), (13, IA 7 (fun _ => 0)), (14, IA 7 (fun _ => 0)), (15, BA 10 (fun _ => 0)), (16, IA 7 (fun _ => 0)), (17, JA 100 (fun _ => 0))])) fcX0 rfl (Nat.le_of_ble_eq_true rfl) rfl rfl rfl q278 rfl rfl (Nat.le_of_ble_eq_true rfl) rfl dX0_init_71 (hov_up rfl) rfl ?_
  refine ew_aload_n (t := 75) dX0_init_74 rfl rfl rfl ?_
  refine ew_bipush (t := 77) (v := 100) dX0_init_75 (by decide) rfl ?_
  refine ew_newJ (t := 79) (N := 100) (h' := (hov h2 [(1, OB 0 [.ref 2, .ref 11, .ref 12, .int 0, .int 0, .ref 13, .ref 14, .ref 15, .ref 16, .int 0, .int 0, .int 0, .int 0, .int 0, .int 0, .int 0, .ref 17, .null, .int 0, .null, .null]), (11, OB 2 [.null, .null, .null, .null, .null, .int 0, .int 0]), (12, BA 60 (fun _ => 0)), (13, IA 7 (fun _ => 0)), (14, IA 7 (fun _ => 0)), (15, BA 10 (fun _ => 0)), (16, IA 7 (fun _ => 0)), (17, JA 100 (fun _ => 0)), (18, JA 100 (fun _ => 0))])) dX0_init_77 q252 (by decide) (by decide) (by decide) (by decide) (by decide) (hov_up rfl) rfl ?_
  refine EW.cnt (k' := 17) (sl' := 834) (n' := 19) rfl rfl rfl ?_
  refine ew_putF (t := 82) (j := 17) (fs' := [.ref 2, .ref 11, .ref 12, .int 0, .int 0, .ref 13, .ref 14, .ref 15, .ref 16, .int 0, .int 0, .int 0, .int 0, .int 0, .int 0, .int 0, .ref 17, .ref 18, .int 0, .null, .null]) (h' := (hov h2 [(1, OB 0 [.ref 2, .ref 11, .ref 12, .int 0, .int 0, .ref 13, .ref 14, .ref 15, .ref 16, .int 0, .int 0, .int 0, .int 0, .int 0, .int 0, .int 0, .ref 17, .ref 18, .int 0, .null, .null]), (11, OB 2 [.null, .null, .null, .null, .null, .int 0, .int 0]), (12, BA 60 (fun _ => 0)), (13, IA 7 (fun _ => 0)), (14, IA 7 (fun _ => 0)), (15, BA 10 (fun _ => 0)), (16, IA 7 (fun _ => 0)), (17, JA 100 (fun _ => 0)), (18, JA 100 (fun _ => 0))])) fcX0 rfl (Nat.le_of_ble_eq_true rfl) rfl rfl rfl q279 rfl rfl (Nat.le_of_ble_eq_true rfl) rfl dX0_init_79 (hov_up rfl) rfl ?_
  refine ew_aload_n (t := 83) dX0_init_82 rfl rfl rfl ?_
  refine ew_new (t := 86) (fs := [.null, .null, .null, .null, .null, .null, .null, .null]) (h' := (hov h2 [(1, OB 0 [.ref 2, .ref 11, .ref 12, .int 0, .int 0, .ref 13, .ref 14, .ref 15, .ref 16, .int 0, .int 0, .int 0, .int 0, .int 0, .int 0, .int 0, .ref 17, .ref 18, .int 0, .null, .null]), (11, OB 2 [.null, .null, .null, .null, .null, .int 0, .int 0]), (12, BA 60 (fun _ => 0)), (13, IA 7 (fun _ => 0)), (14, IA 7 (fun _ => 0)), (15, BA 10 (fun _ => 0)), (16, IA 7 (fun _ => 0)), (17, JA 100 (fun _ => 0)), (18, JA 100 (fun _ => 0)), (19, OB 1 [.null, .null, .null, .null, .null, .null, .null, .null])])) fcX1 dX0_init_83 q91 q92 q52 (by decide) (by decide) rfl (hov_up rfl) rfl ?_
  refine EW.cnt (k' := 18) (sl' := 842) (n' := 20) rfl rfl rfl ?_
  refine ew_dup (t := 87) dX0_init_86 rfl rfl ?_
  refine ew_callI (t := 90) (As := []) (xt_init19 (h := (hov h2 [(1, OB 0 [.ref 2, .ref 11, .ref 12, .int 0, .int 0, .ref 13, .ref 14, .ref 15, .ref 16, .int 0, .int 0, .int 0, .int 0, .int 0, .int 0, .int 0, .ref 17, .ref 18, .int 0, .null, .null]), (11, OB 2 [.null, .null, .null, .null, .null, .int 0, .int 0]), (12, BA 60 (fun _ => 0)), (13, IA 7 (fun _ => 0)), (14, IA 7 (fun _ => 0)), (15, BA 10 (fun _ => 0)), (16, IA 7 (fun _ => 0)), (17, JA 100 (fun _ => 0)), (18, JA 100 (fun _ => 0)), (19, OB 1 [.null, .null, .null, .null, .null, .null, .null, .null])])) rfl) q93 q94 q52 q95 rfl naX1_init dX0_init_87 rfl (Nat.le_of_ble_eq_true rfl) (Nat.le_of_ble_eq_true rfl) (by omega) (by omega) (Nat.le_of_ble_eq_true rfl) rfl (fun r h19 n1 q => ?_)
  obtain ⟨rfl, rfl, xt19, li19, lj19, hk19⟩ := q
  have y19_1 : h19 1 = some (OB 0 [.ref 2, .ref 11, .ref 12, .int 0, .int 0, .ref 13, .ref 14, .ref 15, .ref 16, .int 0, .int 0, .int 0, .int 0, .int 0, .int 0, .int 0, .ref 17, .ref 18, .int 0, .null, .null]) := (hk19 1 (by omega)).trans (by first | rfl | exact rfl)
  have y19_2 : h19 2 = some (OB 1 [.ref 3, .ref 4, .ref 5, .ref 6, .ref 7, .ref 8, .ref 9, .ref 10]) := (hk19 2 (by omega)).trans (by first | rfl | exact y2_2)
  have y19_11 : h19 11 = some (OB 2 [.null, .null, .null, .null, .null, .int 0, .int 0]) := (hk19 11 (by omega)).trans (by first | rfl | exact rfl)
  have y19_12 : h19 12 = some (BA 60 (fun _ => 0)) := (hk19 12 (by omega)).trans (by first | rfl | exact rfl)
  have y19_13 : h19 13 = some (IA 7 (fun _ => 0)) := (hk19 13 (by omega)).trans (by first | rfl | exact rfl)
  have y19_14 : h19 14 = some (IA 7 (fun _ => 0)) := (hk19 14 (by omega)).trans (by first | rfl | exact rfl)
  have y19_15 : h19 15 = some (BA 10 (fun _ => 0)) := (hk19 15 (by omega)).trans (by first | rfl | exact rfl)
  have y19_16 : h19 16 = some (IA 7 (fun _ => 0)) := (hk19 16 (by omega)).trans (by first | rfl | exact rfl)
  have y19_17 : h19 17 = some (JA 100 (fun _ => 0)) := (hk19 17 (by omega)).trans (by first | rfl | exact rfl)
  have y19_18 : h19 18 = some (JA 100 (fun _ => 0)) := (hk19 18 (by omega)).trans (by first | rfl | exact rfl)
  have y19_19 := xt19.1
  refine EW.cnt (k' := 26) (sl' := 1370) (n' := 28) rfl rfl rfl ?_
  refine ew_putF (t := 93) (j := 19) (fs' := [.ref 2, .ref 11, .ref 12, .int 0, .int 0, .ref 13, .ref 14, .ref 15, .ref 16, .int 0, .int 0, .int 0, .int 0, .int 0, .int 0, .int 0, .ref 17, .ref 18, .int 0, .ref 19, .null]) (h' := (hov h19 [(1, OB 0 [.ref 2, .ref 11, .ref 12, .int 0, .int 0, .ref 13, .ref 14, .ref 15, .ref 16, .int 0, .int 0, .int 0, .int 0, .int 0, .int 0, .int 0, .ref 17, .ref 18, .int 0, .ref 19, .null])])) fcX0 y19_1 (Nat.le_of_ble_eq_true rfl) rfl rfl rfl q281 rfl rfl (Nat.le_of_ble_eq_true rfl) rfl dX0_init_90 (hov_up0) rfl ?_
  refine ew_aload_n (t := 94) dX0_init_93 rfl rfl rfl ?_
  refine ew_ic4 (t := 95) dX0_init_94 rfl ?_
  refine ew_newS6 (t := 98) (N := 4) (h' := (hov h19 [(1, OB 0 [.ref 2, .ref 11, .ref 12, .int 0, .int 0, .ref 13, .ref 14, .ref 15, .ref 16, .int 0, .int 0, .int 0, .int 0, .int 0, .int 0, .int 0, .ref 17, .ref 18, .int 0, .ref 19, .null]), (28, RS 4 (fun _ => none))])) dX0_init_95 q240 (by decide) (by decide) (by decide) (by decide) (by decide) (hov_up rfl) rfl ?_
  refine EW.cnt (k' := 27) (sl' := 1374) (n' := 29) rfl rfl rfl ?_
  refine ew_putF (t := 101) (j := 20) (fs' := [.ref 2, .ref 11, .ref 12, .int 0, .int 0, .ref 13, .ref 14, .ref 15, .ref 16, .int 0, .int 0, .int 0, .int 0, .int 0, .int 0, .int 0, .ref 17, .ref 18, .int 0, .ref 19, .ref 28]) (h' := (hov h19 [(1, OB 0 [.ref 2, .ref 11, .ref 12, .int 0, .int 0, .ref 13, .ref 14, .ref 15, .ref 16, .int 0, .int 0, .int 0, .int 0, .int 0, .int 0, .int 0, .ref 17, .ref 18, .int 0, .ref 19, .ref 28]), (28, RS 4 (fun _ => none))])) fcX0 rfl (Nat.le_of_ble_eq_true rfl) rfl rfl rfl q282 rfl rfl (Nat.le_of_ble_eq_true rfl) rfl dX0_init_98 (hov_up rfl) rfl ?_
  refine ew_ic0 (t := 102) dX0_init_101 rfl ?_
  refine ew_istore_n (t := 103) (L' := [some (.ref 1), some (.int 0)]) dX0_init_102 rfl (Nat.le_of_ble_eq_true rfl) rfl rfl ?_
  refine ew_iload_n (t := 104) dX0_init_103 rfl rfl rfl ?_
  refine ew_ic4 (t := 105) dX0_init_104 rfl ?_
  refine ew_icmp_ge (t := 127) (t2 := 108) dX0_init_105 rfl rfl (fun c => absurd c (by decide)) (fun _ => ?_)
  refine ew_aload_n (t := 109) dX0_init_108 rfl rfl rfl ?_
  refine ew_get (t := 112) (j := 20) (v := .ref 28) fcX0 rfl (Nat.le_of_ble_eq_true rfl) q282 rfl dX0_init_109 rfl ?_
  refine ew_iload_n (t := 113) dX0_init_112 rfl rfl rfl ?_
  refine ew_new (t := 116) (fs := [.null]) (h' := (hov h19 [(1, OB 0 [.ref 2, .ref 11, .ref 12, .int 0, .int 0, .ref 13, .ref 14, .ref 15, .ref 16, .int 0, .int 0, .int 0, .int 0, .int 0, .int 0, .int 0, .ref 17, .ref 18, .int 0, .ref 19, .ref 28]), (28, RS 4 (fun _ => none)), (29, OB 3 [.null])])) fcX3 dX0_init_113 q240 q242 q59 (by decide) (by decide) rfl (hov_up rfl) rfl ?_
  refine EW.cnt (k' := 28) (sl' := 1375) (n' := 30) rfl rfl rfl ?_
  refine ew_dup (t := 117) dX0_init_116 rfl rfl ?_
  refine ew_callIN (t := 120) (As := []) (at_sheet) q243 q244 q59 q245 rfl naX3_init dX0_init_117 rfl (Nat.le_of_ble_eq_true rfl) (Nat.le_of_ble_eq_true rfl) (by omega) (by omega) (Nat.le_of_ble_eq_true rfl) rfl (qv ?_)
  refine ew_aast6 (t := 121) (j := 0) (h' := (hov h19 [(1, OB 0 [.ref 2, .ref 11, .ref 12, .int 0, .int 0, .ref 13, .ref 14, .ref 15, .ref 16, .int 0, .int 0, .int 0, .int 0, .int 0, .int 0, .int 0, .ref 17, .ref 18, .int 0, .ref 19, .ref 28]), (28, RS 4 (va_up (fun _ => none) 0 (some 29))), (29, OB 3 [.null])])) rfl rfl (vpI (by decide)) (by decide) dX0_init_120 (hov_up rfl) rfl ?_
  refine ew_iinc (t := 124) (x := 0) (v := (0 + 1)) (L' := [some (.ref 1), some (.int (0 + 1))]) dX0_init_121 rfl rfl (Nat.le_of_ble_eq_true rfl) rfl rfl ?_
  refine ew_goto (t := 103) dX0_init_124 rfl ?_
  refine ew_iload_n (t := 104) dX0_init_103 rfl rfl rfl ?_
  refine ew_ic4 (t := 105) dX0_init_104 rfl ?_
  refine ew_icmp_ge (t := 127) (t2 := 108) dX0_init_105 rfl rfl (fun c => absurd c (by decide)) (fun _ => ?_)
  refine ew_aload_n (t := 109) dX0_init_108 rfl rfl rfl ?_
  refine ew_get (t := 112) (j := 20) (v := .ref 28) fcX0 rfl (Nat.le_of_ble_eq_true rfl) q282 rfl dX0_init_109 rfl ?_
  refine ew_iload_n (t := 113) dX0_init_112 rfl rfl rfl ?_
  refine ew_new (t := 116) (fs := [.null]) (h' := (hov h19 [(1, OB 0 [.ref 2, .ref 11, .ref 12, .int 0, .int 0, .ref 13, .ref 14, .ref 15, .ref 16, .int 0, .int 0, .int 0, .int 0, .int 0, .int 0, .int 0, .ref 17, .ref 18, .int 0, .ref 19, .ref 28]), (28, RS 4 (va_up (fun _ => none) 0 (some 29))), (29, OB 3 [.null]), (30, OB 3 [.null])])) fcX3 dX0_init_113 q240 q242 q59 (by decide) (by decide) rfl (hov_up rfl) rfl ?_
  refine EW.cnt (k' := 29) (sl' := 1376) (n' := 31) rfl rfl rfl ?_
  refine ew_dup (t := 117) dX0_init_116 rfl rfl ?_
  refine ew_callIN (t := 120) (As := []) (at_sheet) q243 q244 q59 q245 rfl naX3_init dX0_init_117 rfl (Nat.le_of_ble_eq_true rfl) (Nat.le_of_ble_eq_true rfl) (by omega) (by omega) (Nat.le_of_ble_eq_true rfl) rfl (qv ?_)
  refine ew_aast6 (t := 121) (j := 1) (h' := (hov h19 [(1, OB 0 [.ref 2, .ref 11, .ref 12, .int 0, .int 0, .ref 13, .ref 14, .ref 15, .ref 16, .int 0, .int 0, .int 0, .int 0, .int 0, .int 0, .int 0, .ref 17, .ref 18, .int 0, .ref 19, .ref 28]), (28, RS 4 (va_up (va_up (fun _ => none) 0 (some 29)) 1 (some 30))), (29, OB 3 [.null]), (30, OB 3 [.null])])) rfl rfl (vpI (by decide)) (by decide) dX0_init_120 (hov_up rfl) rfl ?_
  refine ew_iinc (t := 124) (x := (0 + 1)) (v := ((0 + 1) + 1)) (L' := [some (.ref 1), some (.int ((0 + 1) + 1))]) dX0_init_121 rfl rfl (Nat.le_of_ble_eq_true rfl) rfl rfl ?_
  refine ew_goto (t := 103) dX0_init_124 rfl ?_
  refine ew_iload_n (t := 104) dX0_init_103 rfl rfl rfl ?_
  refine ew_ic4 (t := 105) dX0_init_104 rfl ?_
  refine ew_icmp_ge (t := 127) (t2 := 108) dX0_init_105 rfl rfl (fun c => absurd c (by decide)) (fun _ => ?_)
  refine ew_aload_n (t := 109) dX0_init_108 rfl rfl rfl ?_
  refine ew_get (t := 112) (j := 20) (v := .ref 28) fcX0 rfl (Nat.le_of_ble_eq_true rfl) q282 rfl dX0_init_109 rfl ?_
  refine ew_iload_n (t := 113) dX0_init_112 rfl rfl rfl ?_
  refine ew_new (t := 116) (fs := [.null]) (h' := (hov h19 [(1, OB 0 [.ref 2, .ref 11, .ref 12, .int 0, .int 0, .ref 13, .ref 14, .ref 15, .ref 16, .int 0, .int 0, .int 0, .int 0, .int 0, .int 0, .int 0, .ref 17, .ref 18, .int 0, .ref 19, .ref 28]), (28, RS 4 (va_up (va_up (fun _ => none) 0 (some 29)) 1 (some 30))), (29, OB 3 [.null]), (30, OB 3 [.null]), (31, OB 3 [.null])])) fcX3 dX0_init_113 q240 q242 q59 (by decide) (by decide) rfl (hov_up rfl) rfl ?_
  refine EW.cnt (k' := 30) (sl' := 1377) (n' := 32) rfl rfl rfl ?_
  refine ew_dup (t := 117) dX0_init_116 rfl rfl ?_
  refine ew_callIN (t := 120) (As := []) (at_sheet) q243 q244 q59 q245 rfl naX3_init dX0_init_117 rfl (Nat.le_of_ble_eq_true rfl) (Nat.le_of_ble_eq_true rfl) (by omega) (by omega) (Nat.le_of_ble_eq_true rfl) rfl (qv ?_)
  refine ew_aast6 (t := 121) (j := 2) (h' := (hov h19 [(1, OB 0 [.ref 2, .ref 11, .ref 12, .int 0, .int 0, .ref 13, .ref 14, .ref 15, .ref 16, .int 0, .int 0, .int 0, .int 0, .int 0, .int 0, .int 0, .ref 17, .ref 18, .int 0, .ref 19, .ref 28]), (28, RS 4 (va_up (va_up (va_up (fun _ => none) 0 (some 29)) 1 (some 30)) 2 (some 31))), (29, OB 3 [.null]), (30, OB 3 [.null]), (31, OB 3 [.null])])) rfl rfl (vpI (by decide)) (by decide) dX0_init_120 (hov_up rfl) rfl ?_
  refine ew_iinc (t := 124) (x := ((0 + 1) + 1)) (v := (((0 + 1) + 1) + 1)) (L' := [some (.ref 1), some (.int (((0 + 1) + 1) + 1))]) dX0_init_121 rfl rfl (Nat.le_of_ble_eq_true rfl) rfl rfl ?_
  refine ew_goto (t := 103) dX0_init_124 rfl ?_
  refine ew_iload_n (t := 104) dX0_init_103 rfl rfl rfl ?_
  refine ew_ic4 (t := 105) dX0_init_104 rfl ?_
  refine ew_icmp_ge (t := 127) (t2 := 108) dX0_init_105 rfl rfl (fun c => absurd c (by decide)) (fun _ => ?_)
  refine ew_aload_n (t := 109) dX0_init_108 rfl rfl rfl ?_
  refine ew_get (t := 112) (j := 20) (v := .ref 28) fcX0 rfl (Nat.le_of_ble_eq_true rfl) q282 rfl dX0_init_109 rfl ?_
  refine ew_iload_n (t := 113) dX0_init_112 rfl rfl rfl ?_
  refine ew_new (t := 116) (fs := [.null]) (h' := (hov h19 [(1, OB 0 [.ref 2, .ref 11, .ref 12, .int 0, .int 0, .ref 13, .ref 14, .ref 15, .ref 16, .int 0, .int 0, .int 0, .int 0, .int 0, .int 0, .int 0, .ref 17, .ref 18, .int 0, .ref 19, .ref 28]), (28, RS 4 (va_up (va_up (va_up (fun _ => none) 0 (some 29)) 1 (some 30)) 2 (some 31))), (29, OB 3 [.null]), (30, OB 3 [.null]), (31, OB 3 [.null]), (32, OB 3 [.null])])) fcX3 dX0_init_113 q240 q242 q59 (by decide) (by decide) rfl (hov_up rfl) rfl ?_
  refine EW.cnt (k' := 31) (sl' := 1378) (n' := 33) rfl rfl rfl ?_
  refine ew_dup (t := 117) dX0_init_116 rfl rfl ?_
  refine ew_callIN (t := 120) (As := []) (at_sheet) q243 q244 q59 q245 rfl naX3_init dX0_init_117 rfl (Nat.le_of_ble_eq_true rfl) (Nat.le_of_ble_eq_true rfl) (by omega) (by omega) (Nat.le_of_ble_eq_true rfl) rfl (qv ?_)
  refine ew_aast6 (t := 121) (j := 3) (h' := (hov h19 [(1, OB 0 [.ref 2, .ref 11, .ref 12, .int 0, .int 0, .ref 13, .ref 14, .ref 15, .ref 16, .int 0, .int 0, .int 0, .int 0, .int 0, .int 0, .int 0, .ref 17, .ref 18, .int 0, .ref 19, .ref 28]), (28, RS 4 (va_up (va_up (va_up (va_up (fun _ => none) 0 (some 29)) 1 (some 30)) 2 (some 31)) 3 (some 32))), (29, OB 3 [.null]), (30, OB 3 [.null]), (31, OB 3 [.null]), (32, OB 3 [.null])])) rfl rfl (vpI (by decide)) (by decide) dX0_init_120 (hov_up rfl) rfl ?_
  refine ew_iinc (t := 124) (x := (((0 + 1) + 1) + 1)) (v := ((((0 + 1) + 1) + 1) + 1)) (L' := [some (.ref 1), some (.int ((((0 + 1) + 1) + 1) + 1))]) dX0_init_121 rfl rfl (Nat.le_of_ble_eq_true rfl) rfl rfl ?_
  refine ew_goto (t := 103) dX0_init_124 rfl ?_
  refine ew_iload_n (t := 104) dX0_init_103 rfl rfl rfl ?_
  refine ew_ic4 (t := 105) dX0_init_104 rfl ?_
  refine ew_icmp_ge (t := 127) (t2 := 108) dX0_init_105 rfl rfl (fun _ => ?_) (fun c => absurd (by decide) c)
  refine EW.arrS (a := 28) (N := 4) (h' := (hov h19 [(1, OB 0 [.ref 2, .ref 11, .ref 12, .int 0, .int 0, .ref 13, .ref 14, .ref 15, .ref 16, .int 0, .int 0, .int 0, .int 0, .int 0, .int 0, .int 0, .ref 17, .ref 18, .int 0, .ref 19, .ref 28]), (28, RS 4 shT), (29, OB 3 [.null]), (30, OB 3 [.null]), (31, OB 3 [.null]), (32, OB 3 [.null])])) shT rfl (fun j hj => ?_) (hov_up rfl) ?_
  · rcases (show j = 0 ∨ j = 1 ∨ j = 2 ∨ j = 3 by omega) with rfl | rfl | rfl | rfl <;> rfl
  refine ew_vret rfl dX0_init_127 (by omega) (by omega) ?_
  refine ⟨rfl, rfl, rfl, ⟨y19_2, ?_, ?_, ?_, ?_, ?_, ?_⟩, ?_, ?_, y19_11, y19_12, ⟨⟨_, y19_13⟩, ⟨_, y19_14⟩, ⟨_, y19_15⟩, ⟨_, y19_16⟩, ⟨_, y19_17⟩, ⟨_, y19_18⟩⟩, xt19, li19, lj19, rfl, fun t ht => ?_⟩
  · exact (hk19 3 (by omega)).trans xt2.2.1
  · exact (hk19 4 (by omega)).trans xt2.2.2.1
  · exact (hk19 5 (by omega)).trans xt2.2.2.2.1
  · exact (hk19 6 (by omega)).trans xt2.2.2.2.2.1
  · exact (hk19 7 (by omega)).trans xt2.2.2.2.2.2.1
  · exact (hk19 8 (by omega)).trans xt2.2.2.2.2.2.2
  · exact (hk19 9 (by omega)).trans li2
  · exact (hk19 10 (by omega)).trans lj2
  · rcases (show t = 0 ∨ t = 1 ∨ t = 2 ∨ t = 3 by omega) with rfl | rfl | rfl | rfl <;> rfl
