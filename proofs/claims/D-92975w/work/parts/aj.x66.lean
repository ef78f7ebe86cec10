-- Obj fields dict_keys(['cls', 'fun', 'sname', 'refs', 'extra', 'ups'])
/-! Told's constructor (twice: the cells are literal) -/
set_option maxRecDepth 100000
def cuK (f : Nat → Int32) : Nat → Nat → Int32
  | 0 => f
  | k + 1 => upd (upd (cuK f k) k 8) (100 + k) 8
theorem cuK_in : ∀ (k j : Nat), k ≤ 100 → (j < k ∨ (100 ≤ j ∧ j < 100 + k)) → cuK (fun _ => 0) k j = 8
  | 0, j, hk, h => by omega
  | k + 1, j, hk, h => by
    rw [cuK]
    by_cases e : j = 100 + k
    · rw [e, pk_us]
    · rw [pk_un e]
      by_cases e2 : j = k
      · rw [e2, pk_us]
      · rw [pk_un e2]; exact cuK_in k j (by omega) (by omega)
theorem cuK_out : ∀ (k j : Nat), k ≤ 100 → 200 ≤ j → cuK (fun _ => 0) k j = 0
  | 0, j, hk, h => rfl
  | k + 1, j, hk, h => by rw [cuK, pk_un (by omega), pk_un (by omega)]; exact cuK_out k j (by omega) h
theorem cuK_eq : cuK (fun _ => 0) 100 = iF 37 := by
  funext j
  show _ = (if j < 200 then (8 : Int32) else 0)
  by_cases c : j < 200
  · rw [if_pos c]; exact cuK_in 100 j (by omega) (by omega)
  · rw [if_neg c]; exact cuK_out 100 j (by omega) (by omega)
theorem set_eqT : upd (upd (upd (upd (upd (upd (upd (upd (fun _ => (0 : Int32)) 0 0) 1 0) 2 6) 3 1) 4 0) 5 60) 6 1) 7 8 = iF 34 := by
  rw [← set_eq]
  funext j
  unfold upd
  by_cases c0 : j = 0
  · subst c0; decide
  by_cases c1 : j = 1
  · subst c1; decide
  by_cases c4 : j = 4
  · subst c4; decide
  simp [c0, c1, c4]
theorem far_eqT : upd (upd (upd (upd (upd (upd (upd (fun _ => (0 : Int32)) 0 (-4)) 1 (-4)) 2 (-4)) 3 (-4)) 4 (-4)) 5 (-4)) 6 (-4) = frX (iF 35) := by
  funext j
  by_cases c : j < 7
  · rcases (show j = 0 ∨ j = 1 ∨ j = 2 ∨ j = 3 ∨ j = 4 ∨ j = 5 ∨ j = 6 by omega) with rfl | rfl | rfl | rfl | rfl | rfl | rfl <;> decide
  · have e : frX (iF 35) j = 0 := by
      unfold frX
      rw [show iF 35 j = 0 from if_neg c]
      decide
    rw [e]
    unfold upd
    simp [show ¬ j = 0 by omega, show ¬ j = 1 by omega, show ¬ j = 2 by omega, show ¬ j = 3 by omega, show ¬ j = 4 by omega, show ¬ j = 5 by omega, show ¬ j = 6 by omega]
theorem nar_1 : vp_nar .byte 1 = 1 := by decide
theorem nar_8 : vp_nar .byte 8 = 8 := by decide
set_option maxHeartbeats 600000 in
theorem lt_loop2 {l : Launch} {G : GW} {h : AH} {n : Nat} {f0 f1 : Nat → Int32} {Q : Option Value → AH → Nat → Prop} (hD : h 2 = some (OB 1 [.ref 3, .ref 4, .ref 5, .ref 6, .ref 7, .ref 8, .ref 9, .ref 10])) (kk : EW l G yX1_init cX1_init 2 none 4 8 528 Q 8 528 (hov h [(8, BA 100 (flK f0 1 100)), (6, BA 200 (cuK f1 100))]) n 189 [some (.ref 2), some (.int (nI 100))] []) : ∀ (f k : Nat), k + f = 100 → EW l G yX1_init cX1_init 2 none 4 8 528 Q 8 528 (hov h [(8, BA 100 (flK f0 1 k)), (6, BA 200 (cuK f1 k))]) n 151 [some (.ref 2), some (.int (nI k))] [] := by
  intro f
  induction f with
  | zero =>
    intro k  hk
    refine ew_iload_n (t := 152) dX1_init_151 rfl rfl rfl ?_
    refine ew_bipush (t := 154) (v := 100) dX1_init_152 (by decide) rfl ?_
    refine ew_icmp_ge (t := 189) (t2 := 157) dX1_init_154 rfl rfl (fun c_154 => ?_) (fun c_154 => ?_)
    · rw [show k = 100 by omega]
      exact kk
    · exact absurd (show (100 : Int32) ≤ nI k by rw [show k = 100 by omega]; decide) c_154
  | succ f ih =>
    intro k  hk
    refine ew_iload_n (t := 152) dX1_init_151 rfl rfl rfl ?_
    refine ew_bipush (t := 154) (v := 100) dX1_init_152 (by decide) rfl ?_
    refine ew_icmp_ge (t := 189) (t2 := 157) dX1_init_154 rfl rfl (fun c_154 => ?_) (fun c_154 => ?_)
    · exact absurd c_154 (nI_ge (b := 100) (by omega) (by omega))
    · refine ew_aload_n (t := 158) dX1_init_157 rfl rfl rfl ?_
      refine ew_get (t := 161) (j := 5) (v := .ref 8) fcX1 hD (Nat.le_of_ble_eq_true rfl) q137 rfl dX1_init_158 rfl ?_
      refine ew_iload_n (t := 162) dX1_init_161 rfl rfl rfl ?_
      refine ew_ic1 (t := 163) dX1_init_162 rfl ?_
      refine ew_bast (t := 164) (j := k) (N := 100) (h' := (hov h [(8, BA 100 (upd (flK f0 1 k) k (vp_nar .byte 1))), (6, BA 200 (cuK f1 k))])) rfl (vp_in_nI (by omega) (by omega)) (nI_clamp (by omega)) dX1_init_163 (hov_up rfl) rfl ?_
      refine ew_aload_n (t := 165) dX1_init_164 rfl rfl rfl ?_
      refine ew_get (t := 168) (j := 3) (v := .ref 6) fcX1 hD (Nat.le_of_ble_eq_true rfl) q132 rfl dX1_init_165 rfl ?_
      refine ew_iload_n (t := 169) dX1_init_168 rfl rfl rfl ?_
      refine ew_bipush (t := 171) (v := 8) dX1_init_169 (by decide) rfl ?_
      refine ew_bast (t := 172) (j := k) (N := 200) (h' := (hov h [(8, BA 100 (upd (flK f0 1 k) k (vp_nar .byte 1))), (6, BA 200 (upd (cuK f1 k) k (vp_nar .byte 8)))])) rfl (vp_in_nI (by omega) (by omega)) (nI_clamp (by omega)) dX1_init_171 (hov_up rfl) rfl ?_
      refine ew_aload_n (t := 173) dX1_init_172 rfl rfl rfl ?_
      refine ew_get (t := 176) (j := 3) (v := .ref 6) fcX1 hD (Nat.le_of_ble_eq_true rfl) q132 rfl dX1_init_173 rfl ?_
      refine ew_bipush (t := 178) (v := 100) dX1_init_176 (by decide) rfl ?_
      refine ew_iload_n (t := 179) dX1_init_178 rfl rfl rfl ?_
      refine ew_iadd (t := 180) dX1_init_179 rfl ?_
      rw [show (100 : Int32) + nI k = nI (100 + k) from by rw [show (100 : Int32) = nI 100 from rfl, nI_add]]
      refine ew_bipush (t := 182) (v := 8) dX1_init_180 (by decide) rfl ?_
      refine ew_bast (t := 183) (j := (100 + k)) (N := 200) (h' := (hov h [(8, BA 100 (upd (flK f0 1 k) k (vp_nar .byte 1))), (6, BA 200 (upd (upd (cuK f1 k) k (vp_nar .byte 8)) (100 + k) (vp_nar .byte 8)))])) rfl (vp_in_nI (by omega) (by omega)) (nI_clamp (by omega)) dX1_init_182 (hov_up rfl) rfl ?_
      refine ew_iinc (t := 186) (x := (nI k)) (v := ((nI k) + 1)) (L' := [some (.ref 2), some (.int ((nI k) + 1))]) dX1_init_183 rfl rfl (Nat.le_of_ble_eq_true rfl) rfl rfl ?_
      refine ew_goto (t := 151) dX1_init_186 rfl ?_
      rw [nI_1]
      rw [nar_1, nar_8]
      exact ih (k + 1) (by omega)
set_option maxHeartbeats 600000 in
theorem xt_init2 {l : Launch} {G : GW} {h : AH} (hD : h 2 = some (OB 1 [.null, .null, .null, .null, .null, .null, .null, .null])) : AM l G yX1_init cX1_init 2 none 4 8 528 [.ref 2] h 3 (fun r h' n' => r = none ∧ n' = 11 ∧ XTd 2 iF h' ∧ h' 9 = some (OB 12 [.int 0, .ref 0, .int 0]) ∧ h' 10 = some (OB 12 [.int 0, .ref 0, .int 0]) ∧ ∀ k, k < 2 → h' k = h k) := by
  refine AM.of (L := [some (.ref 2), none]) (by decide) (Nat.le_of_ble_eq_true rfl) rfl ?_
  refine ew_aload_n (t := 1) dX1_init_0 rfl rfl rfl ?_
  refine ew_objInit (t := 4) q96 q89 q90 dX1_init_1 (by decide) (by decide) rfl ?_
  refine ew_aload_n (t := 5) dX1_init_4 rfl rfl rfl ?_
  refine ew_bipush (t := 7) (v := 8) dX1_init_5 (by decide) rfl ?_
  refine ew_newI (t := 9) (N := 8) (h' := (hov h [(3, IA 8 (fun _ => 0))])) dX1_init_7 q123 (by decide) (by decide) (by decide) (by decide) (by decide) (hov_up0) rfl ?_
  refine EW.cnt (k' := 1) (sl' := 8) (n' := 4) rfl rfl rfl ?_
  refine ew_dup (t := 10) dX1_init_9 rfl rfl ?_
  refine ew_ic0 (t := 11) dX1_init_10 rfl ?_
  refine ew_ic0 (t := 12) dX1_init_11 rfl ?_
  refine ew_iast (t := 13) (j := 0) (N := 8) (h' := (hov h [(3, IA 8 (upd (fun _ => 0) 0 0))])) rfl (vpI (by decide)) (by decide) dX1_init_12 (hov_up rfl) rfl ?_
  refine ew_dup (t := 14) dX1_init_13 rfl rfl ?_
  refine ew_ic1 (t := 15) dX1_init_14 rfl ?_
  refine ew_ic0 (t := 16) dX1_init_15 rfl ?_
  refine ew_iast (t := 17) (j := 1) (N := 8) (h' := (hov h [(3, IA 8 (upd (upd (fun _ => 0) 0 0) 1 0))])) rfl (vpI (by decide)) (by decide) dX1_init_16 (hov_up rfl) rfl ?_
  refine ew_dup (t := 18) dX1_init_17 rfl rfl ?_
  refine ew_ic2 (t := 19) dX1_init_18 rfl ?_
  refine ew_bipush (t := 21) (v := 6) dX1_init_19 (by decide) rfl ?_
  refine ew_iast (t := 22) (j := 2) (N := 8) (h' := (hov h [(3, IA 8 (upd (upd (upd (fun _ => 0) 0 0) 1 0) 2 6))])) rfl (vpI (by decide)) (by decide) dX1_init_21 (hov_up rfl) rfl ?_
  refine ew_dup (t := 23) dX1_init_22 rfl rfl ?_
  refine ew_ic3 (t := 24) dX1_init_23 rfl ?_
  refine ew_ic1 (t := 25) dX1_init_24 rfl ?_
  refine ew_iast (t := 26) (j := 3) (N := 8) (h' := (hov h [(3, IA 8 (upd (upd (upd (upd (fun _ => 0) 0 0) 1 0) 2 6) 3 1))])) rfl (vpI (by decide)) (by decide) dX1_init_25 (hov_up rfl) rfl ?_
  refine ew_dup (t := 27) dX1_init_26 rfl rfl ?_
  refine ew_ic4 (t := 28) dX1_init_27 rfl ?_
  refine ew_ic0 (t := 29) dX1_init_28 rfl ?_
  refine ew_iast (t := 30) (j := 4) (N := 8) (h' := (hov h [(3, IA 8 (upd (upd (upd (upd (upd (fun _ => 0) 0 0) 1 0) 2 6) 3 1) 4 0))])) rfl (vpI (by decide)) (by decide) dX1_init_29 (hov_up rfl) rfl ?_
  refine ew_dup (t := 31) dX1_init_30 rfl rfl ?_
  refine ew_ic5 (t := 32) dX1_init_31 rfl ?_
  refine ew_bipush (t := 34) (v := 60) dX1_init_32 (by decide) rfl ?_
  refine ew_iast (t := 35) (j := 5) (N := 8) (h' := (hov h [(3, IA 8 (upd (upd (upd (upd (upd (upd (fun _ => 0) 0 0) 1 0) 2 6) 3 1) 4 0) 5 60))])) rfl (vpI (by decide)) (by decide) dX1_init_34 (hov_up rfl) rfl ?_
  refine ew_dup (t := 36) dX1_init_35 rfl rfl ?_
  refine ew_bipush (t := 38) (v := 6) dX1_init_36 (by decide) rfl ?_
  refine ew_ic1 (t := 39) dX1_init_38 rfl ?_
  refine ew_iast (t := 40) (j := 6) (N := 8) (h' := (hov h [(3, IA 8 (upd (upd (upd (upd (upd (upd (upd (fun _ => 0) 0 0) 1 0) 2 6) 3 1) 4 0) 5 60) 6 1))])) rfl (vpI (by decide)) (by decide) dX1_init_39 (hov_up rfl) rfl ?_
  refine ew_dup (t := 41) dX1_init_40 rfl rfl ?_
  refine ew_bipush (t := 43) (v := 7) dX1_init_41 (by decide) rfl ?_
  refine ew_bipush (t := 45) (v := 8) dX1_init_43 (by decide) rfl ?_
  refine ew_iast (t := 46) (j := 7) (N := 8) (h' := (hov h [(3, IA 8 (upd (upd (upd (upd (upd (upd (upd (upd (fun _ => 0) 0 0) 1 0) 2 6) 3 1) 4 0) 5 60) 6 1) 7 8))])) rfl (vpI (by decide)) (by decide) dX1_init_45 (hov_up rfl) rfl ?_
  refine ew_putF (t := 49) (j := 0) (fs' := [.ref 3, .null, .null, .null, .null, .null, .null, .null]) (h' := (hov h [(3, IA 8 (upd (upd (upd (upd (upd (upd (upd (upd (fun _ => 0) 0 0) 1 0) 2 6) 3 1) 4 0) 5 60) 6 1) 7 8)), (2, OB 1 [.ref 3, .null, .null, .null, .null, .null, .null, .null])])) fcX1 hD (Nat.le_of_ble_eq_true rfl) rfl rfl rfl q125 rfl rfl (Nat.le_of_ble_eq_true rfl) rfl dX1_init_46 (hov_up rfl) rfl ?_
  refine ew_aload_n (t := 50) dX1_init_49 rfl rfl rfl ?_
  refine ew_bipush (t := 52) (v := 7) dX1_init_50 (by decide) rfl ?_
  refine ew_newI (t := 54) (N := 7) (h' := (hov h [(3, IA 8 (upd (upd (upd (upd (upd (upd (upd (upd (fun _ => 0) 0 0) 1 0) 2 6) 3 1) 4 0) 5 60) 6 1) 7 8)), (2, OB 1 [.ref 3, .null, .null, .null, .null, .null, .null, .null]), (4, IA 7 (fun _ => 0))])) dX1_init_52 q123 (by decide) (by decide) (by decide) (by decide) (by decide) (hov_up rfl) rfl ?_
  refine EW.cnt (k' := 2) (sl' := 15) (n' := 5) rfl rfl rfl ?_
  refine ew_dup (t := 55) dX1_init_54 rfl rfl ?_
  refine ew_ic0 (t := 56) dX1_init_55 rfl ?_
  refine ew_bipush (t := 58) (v := (-4)) dX1_init_56 (by decide) rfl ?_
  refine ew_iast (t := 59) (j := 0) (N := 7) (h' := (hov h [(3, IA 8 (upd (upd (upd (upd (upd (upd (upd (upd (fun _ => 0) 0 0) 1 0) 2 6) 3 1) 4 0) 5 60) 6 1) 7 8)), (2, OB 1 [.ref 3, .null, .null, .null, .null, .null, .null, .null]), (4, IA 7 (upd (fun _ => 0) 0 (-4)))])) rfl (vpI (by decide)) (by decide) dX1_init_58 (hov_up rfl) rfl ?_
  refine ew_dup (t := 60) dX1_init_59 rfl rfl ?_
  refine ew_ic1 (t := 61) dX1_init_60 rfl ?_
  refine ew_bipush (t := 63) (v := (-4)) dX1_init_61 (by decide) rfl ?_
  refine ew_iast (t := 64) (j := 1) (N := 7) (h' := (hov h [(3, IA 8 (upd (upd (upd (upd (upd (upd (upd (upd (fun _ => 0) 0 0) 1 0) 2 6) 3 1) 4 0) 5 60) 6 1) 7 8)), (2, OB 1 [.ref 3, .null, .null, .null, .null, .null, .null, .null]), (4, IA 7 (upd (upd (fun _ => 0) 0 (-4)) 1 (-4)))])) rfl (vpI (by decide)) (by decide) dX1_init_63 (hov_up rfl) rfl ?_
  refine ew_dup (t := 65) dX1_init_64 rfl rfl ?_
  refine ew_ic2 (t := 66) dX1_init_65 rfl ?_
  refine ew_bipush (t := 68) (v := (-4)) dX1_init_66 (by decide) rfl ?_
  refine ew_iast (t := 69) (j := 2) (N := 7) (h' := (hov h [(3, IA 8 (upd (upd (upd (upd (upd (upd (upd (upd (fun _ => 0) 0 0) 1 0) 2 6) 3 1) 4 0) 5 60) 6 1) 7 8)), (2, OB 1 [.ref 3, .null, .null, .null, .null, .null, .null, .null]), (4, IA 7 (upd (upd (upd (fun _ => 0) 0 (-4)) 1 (-4)) 2 (-4)))])) rfl (vpI (by decide)) (by decide) dX1_init_68 (hov_up rfl) rfl ?_
  refine ew_dup (t := 70) dX1_init_69 rfl rfl ?_
  refine ew_ic3 (t := 71) dX1_init_70 rfl ?_
  refine ew_bipush (t := 73) (v := (-4)) dX1_init_71 (by decide) rfl ?_
  refine ew_iast (t := 74) (j := 3) (N := 7) (h' := (hov h [(3, IA 8 (upd (upd (upd (upd (upd (upd (upd (upd (fun _ => 0) 0 0) 1 0) 2 6) 3 1) 4 0) 5 60) 6 1) 7 8)), (2, OB 1 [.ref 3, .null, .null, .null, .null, .null, .null, .null]), (4, IA 7 (upd (upd (upd (upd (fun _ => 0) 0 (-4)) 1 (-4)) 2 (-4)) 3 (-4)))])) rfl (vpI (by decide)) (by decide) dX1_init_73 (hov_up rfl) rfl ?_
  refine ew_dup (t := 75) dX1_init_74 rfl rfl ?_
  refine ew_ic4 (t := 76) dX1_init_75 rfl ?_
  refine ew_bipush (t := 78) (v := (-4)) dX1_init_76 (by decide) rfl ?_
  refine ew_iast (t := 79) (j := 4) (N := 7) (h' := (hov h [(3, IA 8 (upd (upd (upd (upd (upd (upd (upd (upd (fun _ => 0) 0 0) 1 0) 2 6) 3 1) 4 0) 5 60) 6 1) 7 8)), (2, OB 1 [.ref 3, .null, .null, .null, .null, .null, .null, .null]), (4, IA 7 (upd (upd (upd (upd (upd (fun _ => 0) 0 (-4)) 1 (-4)) 2 (-4)) 3 (-4)) 4 (-4)))])) rfl (vpI (by decide)) (by decide) dX1_init_78 (hov_up rfl) rfl ?_
  refine ew_dup (t := 80) dX1_init_79 rfl rfl ?_
  refine ew_ic5 (t := 81) dX1_init_80 rfl ?_
  refine ew_bipush (t := 83) (v := (-4)) dX1_init_81 (by decide) rfl ?_
  refine ew_iast (t := 84) (j := 5) (N := 7) (h' := (hov h [(3, IA 8 (upd (upd (upd (upd (upd (upd (upd (upd (fun _ => 0) 0 0) 1 0) 2 6) 3 1) 4 0) 5 60) 6 1) 7 8)), (2, OB 1 [.ref 3, .null, .null, .null, .null, .null, .null, .null]), (4, IA 7 (upd (upd (upd (upd (upd (upd (fun _ => 0) 0 (-4)) 1 (-4)) 2 (-4)) 3 (-4)) 4 (-4)) 5 (-4)))])) rfl (vpI (by decide)) (by decide) dX1_init_83 (hov_up rfl) rfl ?_
  refine ew_dup (t := 85) dX1_init_84 rfl rfl ?_
  refine ew_bipush (t := 87) (v := 6) dX1_init_85 (by decide) rfl ?_
  refine ew_bipush (t := 89) (v := (-4)) dX1_init_87 (by decide) rfl ?_
  refine ew_iast (t := 90) (j := 6) (N := 7) (h' := (hov h [(3, IA 8 (upd (upd (upd (upd (upd (upd (upd (upd (fun _ => 0) 0 0) 1 0) 2 6) 3 1) 4 0) 5 60) 6 1) 7 8)), (2, OB 1 [.ref 3, .null, .null, .null, .null, .null, .null, .null]), (4, IA 7 (upd (upd (upd (upd (upd (upd (upd (fun _ => 0) 0 (-4)) 1 (-4)) 2 (-4)) 3 (-4)) 4 (-4)) 5 (-4)) 6 (-4)))])) rfl (vpI (by decide)) (by decide) dX1_init_89 (hov_up rfl) rfl ?_
  refine ew_putF (t := 93) (j := 1) (fs' := [.ref 3, .ref 4, .null, .null, .null, .null, .null, .null]) (h' := (hov h [(3, IA 8 (upd (upd (upd (upd (upd (upd (upd (upd (fun _ => 0) 0 0) 1 0) 2 6) 3 1) 4 0) 5 60) 6 1) 7 8)), (2, OB 1 [.ref 3, .ref 4, .null, .null, .null, .null, .null, .null]), (4, IA 7 (upd (upd (upd (upd (upd (upd (upd (fun _ => 0) 0 (-4)) 1 (-4)) 2 (-4)) 3 (-4)) 4 (-4)) 5 (-4)) 6 (-4)))])) fcX1 rfl (Nat.le_of_ble_eq_true rfl) rfl rfl rfl q128 rfl rfl (Nat.le_of_ble_eq_true rfl) rfl dX1_init_90 (hov_up rfl) rfl ?_
  refine ew_aload_n (t := 94) dX1_init_93 rfl rfl rfl ?_
  refine ew_bipush (t := 96) (v := 7) dX1_init_94 (by decide) rfl ?_
  refine ew_newI (t := 98) (N := 7) (h' := (hov h [(3, IA 8 (upd (upd (upd (upd (upd (upd (upd (upd (fun _ => 0) 0 0) 1 0) 2 6) 3 1) 4 0) 5 60) 6 1) 7 8)), (2, OB 1 [.ref 3, .ref 4, .null, .null, .null, .null, .null, .null]), (4, IA 7 (upd (upd (upd (upd (upd (upd (upd (fun _ => 0) 0 (-4)) 1 (-4)) 2 (-4)) 3 (-4)) 4 (-4)) 5 (-4)) 6 (-4))), (5, IA 7 (fun _ => 0))])) dX1_init_96 q123 (by decide) (by decide) (by decide) (by decide) (by decide) (hov_up rfl) rfl ?_
  refine EW.cnt (k' := 3) (sl' := 22) (n' := 6) rfl rfl rfl ?_
  refine ew_putF (t := 101) (j := 2) (fs' := [.ref 3, .ref 4, .ref 5, .null, .null, .null, .null, .null]) (h' := (hov h [(3, IA 8 (upd (upd (upd (upd (upd (upd (upd (upd (fun _ => 0) 0 0) 1 0) 2 6) 3 1) 4 0) 5 60) 6 1) 7 8)), (2, OB 1 [.ref 3, .ref 4, .ref 5, .null, .null, .null, .null, .null]), (4, IA 7 (upd (upd (upd (upd (upd (upd (upd (fun _ => 0) 0 (-4)) 1 (-4)) 2 (-4)) 3 (-4)) 4 (-4)) 5 (-4)) 6 (-4))), (5, IA 7 (fun _ => 0))])) fcX1 rfl (Nat.le_of_ble_eq_true rfl) rfl rfl rfl q130 rfl rfl (Nat.le_of_ble_eq_true rfl) rfl dX1_init_98 (hov_up rfl) rfl ?_
  refine ew_aload_n (t := 102) dX1_init_101 rfl rfl rfl ?_
  refine ew_sipush (t := 105) (v := 200) dX1_init_102 (by decide) rfl ?_
  refine ew_newB (t := 107) (N := 200) (h' := (hov h [(3, IA 8 (upd (upd (upd (upd (upd (upd (upd (upd (fun _ => 0) 0 0) 1 0) 2 6) 3 1) 4 0) 5 60) 6 1) 7 8)), (2, OB 1 [.ref 3, .ref 4, .ref 5, .null, .null, .null, .null, .null]), (4, IA 7 (upd (upd (upd (upd (upd (upd (upd (fun _ => 0) 0 (-4)) 1 (-4)) 2 (-4)) 3 (-4)) 4 (-4)) 5 (-4)) 6 (-4))), (5, IA 7 (fun _ => 0)), (6, BA 200 (fun _ => 0))])) dX1_init_105 q124 (by decide) (by decide) (by decide) (by decide) (by decide) (hov_up rfl) rfl ?_
  refine EW.cnt (k' := 4) (sl' := 222) (n' := 7) rfl rfl rfl ?_
  refine ew_putF (t := 110) (j := 3) (fs' := [.ref 3, .ref 4, .ref 5, .ref 6, .null, .null, .null, .null]) (h' := (hov h [(3, IA 8 (upd (upd (upd (upd (upd (upd (upd (upd (fun _ => 0) 0 0) 1 0) 2 6) 3 1) 4 0) 5 60) 6 1) 7 8)), (2, OB 1 [.ref 3, .ref 4, .ref 5, .ref 6, .null, .null, .null, .null]), (4, IA 7 (upd (upd (upd (upd (upd (upd (upd (fun _ => 0) 0 (-4)) 1 (-4)) 2 (-4)) 3 (-4)) 4 (-4)) 5 (-4)) 6 (-4))), (5, IA 7 (fun _ => 0)), (6, BA 200 (fun _ => 0))])) fcX1 rfl (Nat.le_of_ble_eq_true rfl) rfl rfl rfl q132 rfl rfl (Nat.le_of_ble_eq_true rfl) rfl dX1_init_107 (hov_up rfl) rfl ?_
  refine ew_aload_n (t := 111) dX1_init_110 rfl rfl rfl ?_
  refine ew_sipush (t := 114) (v := 200) dX1_init_111 (by decide) rfl ?_
  refine ew_newB (t := 116) (N := 200) (h' := (hov h [(3, IA 8 (upd (upd (upd (upd (upd (upd (upd (upd (fun _ => 0) 0 0) 1 0) 2 6) 3 1) 4 0) 5 60) 6 1) 7 8)), (2, OB 1 [.ref 3, .ref 4, .ref 5, .ref 6, .null, .null, .null, .null]), (4, IA 7 (upd (upd (upd (upd (upd (upd (upd (fun _ => 0) 0 (-4)) 1 (-4)) 2 (-4)) 3 (-4)) 4 (-4)) 5 (-4)) 6 (-4))), (5, IA 7 (fun _ => 0)), (6, BA 200 (fun _ => 0)), (7, BA 200 (fun _ => 0))])) dX1_init_114 q124 (by decide) (by decide) (by decide) (by decide) (by decide) (hov_up rfl) rfl ?_
  refine EW.cnt (k' := 5) (sl' := 422) (n' := 8) rfl rfl rfl ?_
  refine ew_putF (t := 119) (j := 4) (fs' := [.ref 3, .ref 4, .ref 5, .ref 6, .ref 7, .null, .null, .null]) (h' := (hov h [(3, IA 8 (upd (upd (upd (upd (upd (upd (upd (upd (fun _ => 0) 0 0) 1 0) 2 6) 3 1) 4 0) 5 60) 6 1) 7 8)), (2, OB 1 [.ref 3, .ref 4, .ref 5, .ref 6, .ref 7, .null, .null, .null]), (4, IA 7 (upd (upd (upd (upd (upd (upd (upd (fun _ => 0) 0 (-4)) 1 (-4)) 2 (-4)) 3 (-4)) 4 (-4)) 5 (-4)) 6 (-4))), (5, IA 7 (fun _ => 0)), (6, BA 200 (fun _ => 0)), (7, BA 200 (fun _ => 0))])) fcX1 rfl (Nat.le_of_ble_eq_true rfl) rfl rfl rfl q134 rfl rfl (Nat.le_of_ble_eq_true rfl) rfl dX1_init_116 (hov_up rfl) rfl ?_
  refine ew_aload_n (t := 120) dX1_init_119 rfl rfl rfl ?_
  refine ew_bipush (t := 122) (v := 100) dX1_init_120 (by decide) rfl ?_
  refine ew_newB (t := 124) (N := 100) (h' := (hov h [(3, IA 8 (upd (upd (upd (upd (upd (upd (upd (upd (fun _ => 0) 0 0) 1 0) 2 6) 3 1) 4 0) 5 60) 6 1) 7 8)), (2, OB 1 [.ref 3, .ref 4, .ref 5, .ref 6, .ref 7, .null, .null, .null]), (4, IA 7 (upd (upd (upd (upd (upd (upd (upd (fun _ => 0) 0 (-4)) 1 (-4)) 2 (-4)) 3 (-4)) 4 (-4)) 5 (-4)) 6 (-4))), (5, IA 7 (fun _ => 0)), (6, BA 200 (fun _ => 0)), (7, BA 200 (fun _ => 0)), (8, BA 100 (fun _ => 0))])) dX1_init_122 q124 (by decide) (by decide) (by decide) (by decide) (by decide) (hov_up rfl) rfl ?_
  refine EW.cnt (k' := 6) (sl' := 522) (n' := 9) rfl rfl rfl ?_
  refine ew_putF (t := 127) (j := 5) (fs' := [.ref 3, .ref 4, .ref 5, .ref 6, .ref 7, .ref 8, .null, .null]) (h' := (hov h [(3, IA 8 (upd (upd (upd (upd (upd (upd (upd (upd (fun _ => 0) 0 0) 1 0) 2 6) 3 1) 4 0) 5 60) 6 1) 7 8)), (2, OB 1 [.ref 3, .ref 4, .ref 5, .ref 6, .ref 7, .ref 8, .null, .null]), (4, IA 7 (upd (upd (upd (upd (upd (upd (upd (fun _ => 0) 0 (-4)) 1 (-4)) 2 (-4)) 3 (-4)) 4 (-4)) 5 (-4)) 6 (-4))), (5, IA 7 (fun _ => 0)), (6, BA 200 (fun _ => 0)), (7, BA 200 (fun _ => 0)), (8, BA 100 (fun _ => 0))])) fcX1 rfl (Nat.le_of_ble_eq_true rfl) rfl rfl rfl q137 rfl rfl (Nat.le_of_ble_eq_true rfl) rfl dX1_init_124 (hov_up rfl) rfl ?_
  refine ew_aload_n (t := 128) dX1_init_127 rfl rfl rfl ?_
  refine ew_new (t := 131) (fs := [.int 0, .null, .int 0]) (h' := (hov h [(3, IA 8 (upd (upd (upd (upd (upd (upd (upd (upd (fun _ => 0) 0 0) 1 0) 2 6) 3 1) 4 0) 5 60) 6 1) 7 8)), (2, OB 1 [.ref 3, .ref 4, .ref 5, .ref 6, .ref 7, .ref 8, .null, .null]), (4, IA 7 (upd (upd (upd (upd (upd (upd (upd (fun _ => 0) 0 (-4)) 1 (-4)) 2 (-4)) 3 (-4)) 4 (-4)) 5 (-4)) 6 (-4))), (5, IA 7 (fun _ => 0)), (6, BA 200 (fun _ => 0)), (7, BA 200 (fun _ => 0)), (8, BA 100 (fun _ => 0)), (9, OB 12 [.int 0, .null, .int 0])])) fcJ2 dX1_init_128 q97 q98 q55 (by decide) (by decide) rfl (hov_up rfl) rfl ?_
  refine EW.cnt (k' := 7) (sl' := 525) (n' := 10) rfl rfl rfl ?_
  refine ew_dup (t := 132) dX1_init_131 rfl rfl ?_
  refine ew_callI (t := 135) (As := []) (al_init (c := 9) (h := (hov h [(3, IA 8 (upd (upd (upd (upd (upd (upd (upd (upd (fun _ => 0) 0 0) 1 0) 2 6) 3 1) 4 0) 5 60) 6 1) 7 8)), (2, OB 1 [.ref 3, .ref 4, .ref 5, .ref 6, .ref 7, .ref 8, .null, .null]), (4, IA 7 (upd (upd (upd (upd (upd (upd (upd (fun _ => 0) 0 (-4)) 1 (-4)) 2 (-4)) 3 (-4)) 4 (-4)) 5 (-4)) 6 (-4))), (5, IA 7 (fun _ => 0)), (6, BA 200 (fun _ => 0)), (7, BA 200 (fun _ => 0)), (8, BA 100 (fun _ => 0)), (9, OB 12 [.int 0, .null, .int 0])])) rfl) q99 q100 q55 q101 rfl naJ2_init dX1_init_132 rfl (Nat.le_of_ble_eq_true rfl) (Nat.le_of_ble_eq_true rfl) (by omega) (by omega) (Nat.le_of_ble_eq_true rfl) rfl (qv ?_)
  refine EW.heap (h' := (hov h [(3, IA 8 (upd (upd (upd (upd (upd (upd (upd (upd (fun _ => 0) 0 0) 1 0) 2 6) 3 1) 4 0) 5 60) 6 1) 7 8)), (2, OB 1 [.ref 3, .ref 4, .ref 5, .ref 6, .ref 7, .ref 8, .null, .null]), (4, IA 7 (upd (upd (upd (upd (upd (upd (upd (fun _ => 0) 0 (-4)) 1 (-4)) 2 (-4)) 3 (-4)) 4 (-4)) 5 (-4)) 6 (-4))), (5, IA 7 (fun _ => 0)), (6, BA 200 (fun _ => 0)), (7, BA 200 (fun _ => 0)), (8, BA 100 (fun _ => 0)), (9, OB 12 [.int 0, .ref 0, .int 0])])) (hov_hov _ _ rfl) ?_
  refine ew_putF (t := 138) (j := 6) (fs' := [.ref 3, .ref 4, .ref 5, .ref 6, .ref 7, .ref 8, .ref 9, .null]) (h' := (hov h [(3, IA 8 (upd (upd (upd (upd (upd (upd (upd (upd (fun _ => 0) 0 0) 1 0) 2 6) 3 1) 4 0) 5 60) 6 1) 7 8)), (2, OB 1 [.ref 3, .ref 4, .ref 5, .ref 6, .ref 7, .ref 8, .ref 9, .null]), (4, IA 7 (upd (upd (upd (upd (upd (upd (upd (fun _ => 0) 0 (-4)) 1 (-4)) 2 (-4)) 3 (-4)) 4 (-4)) 5 (-4)) 6 (-4))), (5, IA 7 (fun _ => 0)), (6, BA 200 (fun _ => 0)), (7, BA 200 (fun _ => 0)), (8, BA 100 (fun _ => 0)), (9, OB 12 [.int 0, .ref 0, .int 0])])) fcX1 rfl (Nat.le_of_ble_eq_true rfl) rfl rfl rfl q139 rfl rfl (Nat.le_of_ble_eq_true rfl) rfl dX1_init_135 (hov_up rfl) rfl ?_
  refine ew_aload_n (t := 139) dX1_init_138 rfl rfl rfl ?_
  refine ew_new (t := 142) (fs := [.int 0, .null, .int 0]) (h' := (hov h [(3, IA 8 (upd (upd (upd (upd (upd (upd (upd (upd (fun _ => 0) 0 0) 1 0) 2 6) 3 1) 4 0) 5 60) 6 1) 7 8)), (2, OB 1 [.ref 3, .ref 4, .ref 5, .ref 6, .ref 7, .ref 8, .ref 9, .null]), (4, IA 7 (upd (upd (upd (upd (upd (upd (upd (fun _ => 0) 0 (-4)) 1 (-4)) 2 (-4)) 3 (-4)) 4 (-4)) 5 (-4)) 6 (-4))), (5, IA 7 (fun _ => 0)), (6, BA 200 (fun _ => 0)), (7, BA 200 (fun _ => 0)), (8, BA 100 (fun _ => 0)), (9, OB 12 [.int 0, .ref 0, .int 0]), (10, OB 12 [.int 0, .null, .int 0])])) fcJ2 dX1_init_139 q97 q98 q55 (by decide) (by decide) rfl (hov_up rfl) rfl ?_
  refine EW.cnt (k' := 8) (sl' := 528) (n' := 11) rfl rfl rfl ?_
  refine ew_dup (t := 143) dX1_init_142 rfl rfl ?_
  refine ew_callI (t := 146) (As := []) (al_init (c := 10) (h := (hov h [(3, IA 8 (upd (upd (upd (upd (upd (upd (upd (upd (fun _ => 0) 0 0) 1 0) 2 6) 3 1) 4 0) 5 60) 6 1) 7 8)), (2, OB 1 [.ref 3, .ref 4, .ref 5, .ref 6, .ref 7, .ref 8, .ref 9, .null]), (4, IA 7 (upd (upd (upd (upd (upd (upd (upd (fun _ => 0) 0 (-4)) 1 (-4)) 2 (-4)) 3 (-4)) 4 (-4)) 5 (-4)) 6 (-4))), (5, IA 7 (fun _ => 0)), (6, BA 200 (fun _ => 0)), (7, BA 200 (fun _ => 0)), (8, BA 100 (fun _ => 0)), (9, OB 12 [.int 0, .ref 0, .int 0]), (10, OB 12 [.int 0, .null, .int 0])])) rfl) q99 q100 q55 q101 rfl naJ2_init dX1_init_143 rfl (Nat.le_of_ble_eq_true rfl) (Nat.le_of_ble_eq_true rfl) (by omega) (by omega) (Nat.le_of_ble_eq_true rfl) rfl (qv ?_)
  refine EW.heap (h' := (hov h [(3, IA 8 (upd (upd (upd (upd (upd (upd (upd (upd (fun _ => 0) 0 0) 1 0) 2 6) 3 1) 4 0) 5 60) 6 1) 7 8)), (2, OB 1 [.ref 3, .ref 4, .ref 5, .ref 6, .ref 7, .ref 8, .ref 9, .null]), (4, IA 7 (upd (upd (upd (upd (upd (upd (upd (fun _ => 0) 0 (-4)) 1 (-4)) 2 (-4)) 3 (-4)) 4 (-4)) 5 (-4)) 6 (-4))), (5, IA 7 (fun _ => 0)), (6, BA 200 (fun _ => 0)), (7, BA 200 (fun _ => 0)), (8, BA 100 (fun _ => 0)), (9, OB 12 [.int 0, .ref 0, .int 0]), (10, OB 12 [.int 0, .ref 0, .int 0])])) (hov_hov _ _ rfl) ?_
  refine ew_putF (t := 149) (j := 7) (fs' := [.ref 3, .ref 4, .ref 5, .ref 6, .ref 7, .ref 8, .ref 9, .ref 10]) (h' := (hov h [(3, IA 8 (upd (upd (upd (upd (upd (upd (upd (upd (fun _ => 0) 0 0) 1 0) 2 6) 3 1) 4 0) 5 60) 6 1) 7 8)), (2, OB 1 [.ref 3, .ref 4, .ref 5, .ref 6, .ref 7, .ref 8, .ref 9, .ref 10]), (4, IA 7 (upd (upd (upd (upd (upd (upd (upd (fun _ => 0) 0 (-4)) 1 (-4)) 2 (-4)) 3 (-4)) 4 (-4)) 5 (-4)) 6 (-4))), (5, IA 7 (fun _ => 0)), (6, BA 200 (fun _ => 0)), (7, BA 200 (fun _ => 0)), (8, BA 100 (fun _ => 0)), (9, OB 12 [.int 0, .ref 0, .int 0]), (10, OB 12 [.int 0, .ref 0, .int 0])])) fcX1 rfl (Nat.le_of_ble_eq_true rfl) rfl rfl rfl q141 rfl rfl (Nat.le_of_ble_eq_true rfl) rfl dX1_init_146 (hov_up rfl) rfl ?_
  obtain ⟨h0, e0⟩ : ∃ x, x = (hov h [(3, IA 8 (upd (upd (upd (upd (upd (upd (upd (upd (fun _ => 0) 0 0) 1 0) 2 6) 3 1) 4 0) 5 60) 6 1) 7 8)), (2, OB 1 [.ref 3, .ref 4, .ref 5, .ref 6, .ref 7, .ref 8, .ref 9, .ref 10]), (4, IA 7 (upd (upd (upd (upd (upd (upd (upd (fun _ => 0) 0 (-4)) 1 (-4)) 2 (-4)) 3 (-4)) 4 (-4)) 5 (-4)) 6 (-4))), (5, IA 7 (fun _ => 0)), (6, BA 200 (fun _ => 0)), (7, BA 200 (fun _ => 0)), (8, BA 100 (fun _ => 0)), (9, OB 12 [.int 0, .ref 0, .int 0]), (10, OB 12 [.int 0, .ref 0, .int 0])]) := ⟨_, rfl⟩
  rw [← e0]
  refine ew_ic0 (t := 150) dX1_init_149 rfl ?_
  refine ew_istore_n (t := 151) (L' := [some (.ref 2), some (.int 0)]) dX1_init_150 rfl (Nat.le_of_ble_eq_true rfl) rfl rfl ?_
  refine EW.ov2 (a := 8) (b := 6) (by rw [e0]; rfl) (by rw [e0]; rfl) ?_
  refine lt_loop2 (h := h0) (f0 := fun _ => 0) (f1 := fun _ => 0) (by rw [e0]; rfl) ?_ 100 0 rfl
  refine ew_vret rfl dX1_init_189 (by omega) (by omega) ?_
  refine ⟨rfl, rfl, ⟨(by rw [e0]; rfl), ?_, ?_, (by rw [e0]; rfl), ?_, (by rw [e0]; rfl), ?_⟩, (by rw [e0]; rfl), (by rw [e0]; rfl), fun k hk => ?_⟩
  · rw [← set_eqT, e0]; rfl
  · rw [← far_eqT, e0]; rfl
  · rw [← cuK_eq]; rfl
  · rw [hv_hit, flK_eq]; rfl
  · refine (hv_miss (by omega)).trans ((hv_miss (by omega)).trans ?_)
    rw [hv_nil, e0]
    exact (hv_miss (by omega)).trans ((hv_miss (by omega)).trans ((hv_miss (by omega)).trans ((hv_miss (by omega)).trans ((hv_miss (by omega)).trans ((hv_miss (by omega)).trans ((hv_miss (by omega)).trans ((hv_miss (by omega)).trans (hv_miss (by omega)))))))))
set_option maxHeartbeats 600000 in
theorem lt_loop19 {l : Launch} {G : GW} {h : AH} {n : Nat} {f0 f1 : Nat → Int32} {Q : Option Value → AH → Nat → Prop} (hD : h 19 = some (OB 1 [.ref 20, .ref 21, .ref 22, .ref 23, .ref 24, .ref 25, .ref 26, .ref 27])) (kk : EW l G yX1_init cX1_init 2 none 4 8 528 Q 8 528 (hov h [(25, BA 100 (flK f0 1 100)), (23, BA 200 (cuK f1 100))]) n 189 [some (.ref 19), some (.int (nI 100))] []) : ∀ (f k : Nat), k + f = 100 → EW l G yX1_init cX1_init 2 none 4 8 528 Q 8 528 (hov h [(25, BA 100 (flK f0 1 k)), (23, BA 200 (cuK f1 k))]) n 151 [some (.ref 19), some (.int (nI k))] [] := by
  intro f
  induction f with
  | zero =>
    intro k  hk
    refine ew_iload_n (t := 152) dX1_init_151 rfl rfl rfl ?_
    refine ew_bipush (t := 154) (v := 100) dX1_init_152 (by decide) rfl ?_
    refine ew_icmp_ge (t := 189) (t2 := 157) dX1_init_154 rfl rfl (fun c_154 => ?_) (fun c_154 => ?_)
    · rw [show k = 100 by omega]
      exact kk
    · exact absurd (show (100 : Int32) ≤ nI k by rw [show k = 100 by omega]; decide) c_154
  | succ f ih =>
    intro k  hk
    refine ew_iload_n (t := 152) dX1_init_151 rfl rfl rfl ?_
    refine ew_bipush (t := 154) (v := 100) dX1_init_152 (by decide) rfl ?_
    refine ew_icmp_ge (t := 189) (t2 := 157) dX1_init_154 rfl rfl (fun c_154 => ?_) (fun c_154 => ?_)
    · exact absurd c_154 (nI_ge (b := 100) (by omega) (by omega))
    · refine ew_aload_n (t := 158) dX1_init_157 rfl rfl rfl ?_
      refine ew_get (t := 161) (j := 5) (v := .ref 25) fcX1 hD (Nat.le_of_ble_eq_true rfl) q137 rfl dX1_init_158 rfl ?_
      refine ew_iload_n (t := 162) dX1_init_161 rfl rfl rfl ?_
      refine ew_ic1 (t := 163) dX1_init_162 rfl ?_
      refine ew_bast (t := 164) (j := k) (N := 100) (h' := (hov h [(25, BA 100 (upd (flK f0 1 k) k (vp_nar .byte 1))), (23, BA 200 (cuK f1 k))])) rfl (vp_in_nI (by omega) (by omega)) (nI_clamp (by omega)) dX1_init_163 (hov_up rfl) rfl ?_
      refine ew_aload_n (t := 165) dX1_init_164 rfl rfl rfl ?_
      refine ew_get (t := 168) (j := 3) (v := .ref 23) fcX1 hD (Nat.le_of_ble_eq_true rfl) q132 rfl dX1_init_165 rfl ?_
      refine ew_iload_n (t := 169) dX1_init_168 rfl rfl rfl ?_
      refine ew_bipush (t := 171) (v := 8) dX1_init_169 (by decide) rfl ?_
      refine ew_bast (t := 172) (j := k) (N := 200) (h' := (hov h [(25, BA 100 (upd (flK f0 1 k) k (vp_nar .byte 1))), (23, BA 200 (upd (cuK f1 k) k (vp_nar .byte 8)))])) rfl (vp_in_nI (by omega) (by omega)) (nI_clamp (by omega)) dX1_init_171 (hov_up rfl) rfl ?_
      refine ew_aload_n (t := 173) dX1_init_172 rfl rfl rfl ?_
      refine ew_get (t := 176) (j := 3) (v := .ref 23) fcX1 hD (Nat.le_of_ble_eq_true rfl) q132 rfl dX1_init_173 rfl ?_
      refine ew_bipush (t := 178) (v := 100) dX1_init_176 (by decide) rfl ?_
      refine ew_iload_n (t := 179) dX1_init_178 rfl rfl rfl ?_
      refine ew_iadd (t := 180) dX1_init_179 rfl ?_
      rw [show (100 : Int32) + nI k = nI (100 + k) from by rw [show (100 : Int32) = nI 100 from rfl, nI_add]]
      refine ew_bipush (t := 182) (v := 8) dX1_init_180 (by decide) rfl ?_
      refine ew_bast (t := 183) (j := (100 + k)) (N := 200) (h' := (hov h [(25, BA 100 (upd (flK f0 1 k) k (vp_nar .byte 1))), (23, BA 200 (upd (upd (cuK f1 k) k (vp_nar .byte 8)) (100 + k) (vp_nar .byte 8)))])) rfl (vp_in_nI (by omega) (by omega)) (nI_clamp (by omega)) dX1_init_182 (hov_up rfl) rfl ?_
      refine ew_iinc (t := 186) (x := (nI k)) (v := ((nI k) + 1)) (L' := [some (.ref 19), some (.int ((nI k) + 1))]) dX1_init_183 rfl rfl (Nat.le_of_ble_eq_true rfl) rfl rfl ?_
      refine ew_goto (t := 151) dX1_init_186 rfl ?_
      rw [nI_1]
      rw [nar_1, nar_8]
      exact ih (k + 1) (by omega)
set_option maxHeartbeats 600000 in
theorem xt_init19 {l : Launch} {G : GW} {h : AH} (hD : h 19 = some (OB 1 [.null, .null, .null, .null, .null, .null, .null, .null])) : AM l G yX1_init cX1_init 2 none 4 8 528 [.ref 19] h 20 (fun r h' n' => r = none ∧ n' = 28 ∧ XTd 19 iF h' ∧ h' 26 = some (OB 12 [.int 0, .ref 0, .int 0]) ∧ h' 27 = some (OB 12 [.int 0, .ref 0, .int 0]) ∧ ∀ k, k < 19 → h' k = h k) := by
  refine AM.of (L := [some (.ref 19), none]) (by decide) (Nat.le_of_ble_eq_true rfl) rfl ?_
  refine ew_aload_n (t := 1) dX1_init_0 rfl rfl rfl ?_
  refine ew_objInit (t := 4) q96 q89 q90 dX1_init_1 (by decide) (by decide) rfl ?_
  refine ew_aload_n (t := 5) dX1_init_4 rfl rfl rfl ?_
  refine ew_bipush (t := 7) (v := 8) dX1_init_5 (by decide) rfl ?_
  refine ew_newI (t := 9) (N := 8) (h' := (hov h [(20, IA 8 (fun _ => 0))])) dX1_init_7 q123 (by decide) (by decide) (by decide) (by decide) (by decide) (hov_up0) rfl ?_
  refine EW.cnt (k' := 1) (sl' := 8) (n' := 21) rfl rfl rfl ?_
  refine ew_dup (t := 10) dX1_init_9 rfl rfl ?_
  refine ew_ic0 (t := 11) dX1_init_10 rfl ?_
  refine ew_ic0 (t := 12) dX1_init_11 rfl ?_
  refine ew_iast (t := 13) (j := 0) (N := 8) (h' := (hov h [(20, IA 8 (upd (fun _ => 0) 0 0))])) rfl (vpI (by decide)) (by decide) dX1_init_12 (hov_up rfl) rfl ?_
  refine ew_dup (t := 14) dX1_init_13 rfl rfl ?_
  refine ew_ic1 (t := 15) dX1_init_14 rfl ?_
  refine ew_ic0 (t := 16) dX1_init_15 rfl ?_
  refine ew_iast (t := 17) (j := 1) (N := 8) (h' := (hov h [(20, IA 8 (upd (upd (fun _ => 0) 0 0) 1 0))])) rfl (vpI (by decide)) (by decide) dX1_init_16 (hov_up rfl) rfl ?_
  refine ew_dup (t := 18) dX1_init_17 rfl rfl ?_
  refine ew_ic2 (t := 19) dX1_init_18 rfl ?_
  refine ew_bipush (t := 21) (v := 6) dX1_init_19 (by decide) rfl ?_
  refine ew_iast (t := 22) (j := 2) (N := 8) (h' := (hov h [(20, IA 8 (upd (upd (upd (fun _ => 0) 0 0) 1 0) 2 6))])) rfl (vpI (by decide)) (by decide) dX1_init_21 (hov_up rfl) rfl ?_
  refine ew_dup (t := 23) dX1_init_22 rfl rfl ?_
  refine ew_ic3 (t := 24) dX1_init_23 rfl ?_
  refine ew_ic1 (t := 25) dX1_init_24 rfl ?_
  refine ew_iast (t := 26) (j := 3) (N := 8) (h' := (hov h [(20, IA 8 (upd (upd (upd (upd (fun _ => 0) 0 0) 1 0) 2 6) 3 1))])) rfl (vpI (by decide)) (by decide) dX1_init_25 (hov_up rfl) rfl ?_
  refine ew_dup (t := 27) dX1_init_26 rfl rfl ?_
  refine ew_ic4 (t := 28) dX1_init_27 rfl ?_
  refine ew_ic0 (t := 29) dX1_init_28 rfl ?_
  refine ew_iast (t := 30) (j := 4) (N := 8) (h' := (hov h [(20, IA 8 (upd (upd (upd (upd (upd (fun _ => 0) 0 0) 1 0) 2 6) 3 1) 4 0))])) rfl (vpI (by decide)) (by decide) dX1_init_29 (hov_up rfl) rfl ?_
  refine ew_dup (t := 31) dX1_init_30 rfl rfl ?_
  refine ew_ic5 (t := 32) dX1_init_31 rfl ?_
  refine ew_bipush (t := 34) (v := 60) dX1_init_32 (by decide) rfl ?_
  refine ew_iast (t := 35) (j := 5) (N := 8) (h' := (hov h [(20, IA 8 (upd (upd (upd (upd (upd (upd (fun _ => 0) 0 0) 1 0) 2 6) 3 1) 4 0) 5 60))])) rfl (vpI (by decide)) (by decide) dX1_init_34 (hov_up rfl) rfl ?_
  refine ew_dup (t := 36) dX1_init_35 rfl rfl ?_
  refine ew_bipush (t := 38) (v := 6) dX1_init_36 (by decide) rfl ?_
  refine ew_ic1 (t := 39) dX1_init_38 rfl ?_
  refine ew_iast (t := 40) (j := 6) (N := 8) (h' := (hov h [(20, IA 8 (upd (upd (upd (upd (upd (upd (upd (fun _ => 0) 0 0) 1 0) 2 6) 3 1) 4 0) 5 60) 6 1))])) rfl (vpI (by decide)) (by decide) dX1_init_39 (hov_up rfl) rfl ?_
  refine ew_dup (t := 41) dX1_init_40 rfl rfl ?_
  refine ew_bipush (t := 43) (v := 7) dX1_init_41 (by decide) rfl ?_
  refine ew_bipush (t := 45) (v := 8) dX1_init_43 (by decide) rfl ?_
  refine ew_iast (t := 46) (j := 7) (N := 8) (h' := (hov h [(20, IA 8 (upd (upd (upd (upd (upd (upd (upd (upd (fun _ => 0) 0 0) 1 0) 2 6) 3 1) 4 0) 5 60) 6 1) 7 8))])) rfl (vpI (by decide)) (by decide) dX1_init_45 (hov_up rfl) rfl ?_
  refine ew_putF (t := 49) (j := 0) (fs' := [.ref 20, .null, .null, .null, .null, .null, .null, .null]) (h' := (hov h [(20, IA 8 (upd (upd (upd (upd (upd (upd (upd (upd (fun _ => 0) 0 0) 1 0) 2 6) 3 1) 4 0) 5 60) 6 1) 7 8)), (19, OB 1 [.ref 20, .null, .null, .null, .null, .null, .null, .null])])) fcX1 hD (Nat.le_of_ble_eq_true rfl) rfl rfl rfl q125 rfl rfl (Nat.le_of_ble_eq_true rfl) rfl dX1_init_46 (hov_up rfl) rfl ?_
  refine ew_aload_n (t := 50) dX1_init_49 rfl rfl rfl ?_
  refine ew_bipush (t := 52) (v := 7) dX1_init_50 (by decide) rfl ?_
  refine ew_newI (t := 54) (N := 7) (h' := (hov h [(20, IA 8 (upd (upd (upd (upd (upd (upd (upd (upd (fun _ => 0) 0 0) 1 0) 2 6) 3 1) 4 0) 5 60) 6 1) 7 8)), (19, OB 1 [.ref 20, .null, .null, .null, .null, .null, .null, .null]), (21, IA 7 (fun _ => 0))])) dX1_init_52 q123 (by decide) (by decide) (by decide) (by decide) (by decide) (hov_up rfl) rfl ?_
  refine EW.cnt (k' := 2) (sl' := 15) (n' := 22) rfl rfl rfl ?_
  refine ew_dup (t := 55) dX1_init_54 rfl rfl ?_
  refine ew_ic0 (t := 56) dX1_init_55 rfl ?_
  refine ew_bipush (t := 58) (v := (-4)) dX1_init_56 (by decide) rfl ?_
  refine ew_iast (t := 59) (j := 0) (N := 7) (h' := (hov h [(20, IA 8 (upd (upd (upd (upd (upd (upd (upd (upd (fun _ => 0) 0 0) 1 0) 2 6) 3 1) 4 0) 5 60) 6 1) 7 8)), (19, OB 1 [.ref 20, .null, .null, .null, .null, .null, .null, .null]), (21, IA 7 (upd (fun _ => 0) 0 (-4)))])) rfl (vpI (by decide)) (by decide) dX1_init_58 (hov_up rfl) rfl ?_
  refine ew_dup (t := 60) dX1_init_59 rfl rfl ?_
  refine ew_ic1 (t := 61) dX1_init_60 rfl ?_
  refine ew_bipush (t := 63) (v := (-4)) dX1_init_61 (by decide) rfl ?_
  refine ew_iast (t := 64) (j := 1) (N := 7) (h' := (hov h [(20, IA 8 (upd (upd (upd (upd (upd (upd (upd (upd (fun _ => 0) 0 0) 1 0) 2 6) 3 1) 4 0) 5 60) 6 1) 7 8)), (19, OB 1 [.ref 20, .null, .null, .null, .null, .null, .null, .null]), (21, IA 7 (upd (upd (fun _ => 0) 0 (-4)) 1 (-4)))])) rfl (vpI (by decide)) (by decide) dX1_init_63 (hov_up rfl) rfl ?_
  refine ew_dup (t := 65) dX1_init_64 rfl rfl ?_
  refine ew_ic2 (t := 66) dX1_init_65 rfl ?_
  refine ew_bipush (t := 68) (v := (-4)) dX1_init_66 (by decide) rfl ?_
  refine ew_iast (t := 69) (j := 2) (N := 7) (h' := (hov h [(20, IA 8 (upd (upd (upd (upd (upd (upd (upd (upd (fun _ => 0) 0 0) 1 0) 2 6) 3 1) 4 0) 5 60) 6 1) 7 8)), (19, OB 1 [.ref 20, .null, .null, .null, .null, .null, .null, .null]), (21, IA 7 (upd (upd (upd (fun _ => 0) 0 (-4)) 1 (-4)) 2 (-4)))])) rfl (vpI (by decide)) (by decide) dX1_init_68 (hov_up rfl) rfl ?_
  refine ew_dup (t := 70) dX1_init_69 rfl rfl ?_
  refine ew_ic3 (t := 71) dX1_init_70 rfl ?_
  refine ew_bipush (t := 73) (v := (-4)) dX1_init_71 (by decide) rfl ?_
  refine ew_iast (t := 74) (j := 3) (N := 7) (h' := (hov h [(20, IA 8 (upd (upd (upd (upd (upd (upd (upd (upd (fun _ => 0) 0 0) 1 0) 2 6) 3 1) 4 0) 5 60) 6 1) 7 8)), (19, OB 1 [.ref 20, .null, .null, .null, .null, .null, .null, .null]), (21, IA 7 (upd (upd (upd (upd (fun _ => 0) 0 (-4)) 1 (-4)) 2 (-4)) 3 (-4)))])) rfl (vpI (by decide)) (by decide) dX1_init_73 (hov_up rfl) rfl ?_
  refine ew_dup (t := 75) dX1_init_74 rfl rfl ?_
  refine ew_ic4 (t := 76) dX1_init_75 rfl ?_
  refine ew_bipush (t := 78) (v := (-4)) dX1_init_76 (by decide) rfl ?_
  refine ew_iast (t := 79) (j := 4) (N := 7) (h' := (hov h [(20, IA 8 (upd (upd (upd (upd (upd (upd (upd (upd (fun _ => 0) 0 0) 1 0) 2 6) 3 1) 4 0) 5 60) 6 1) 7 8)), (19, OB 1 [.ref 20, .null, .null, .null, .null, .null, .null, .null]), (21, IA 7 (upd (upd (upd (upd (upd (fun _ => 0) 0 (-4)) 1 (-4)) 2 (-4)) 3 (-4)) 4 (-4)))])) rfl (vpI (by decide)) (by decide) dX1_init_78 (hov_up rfl) rfl ?_
  refine ew_dup (t := 80) dX1_init_79 rfl rfl ?_
  refine ew_ic5 (t := 81) dX1_init_80 rfl ?_
  refine ew_bipush (t := 83) (v := (-4)) dX1_init_81 (by decide) rfl ?_
  refine ew_iast (t := 84) (j := 5) (N := 7) (h' := (hov h [(20, IA 8 (upd (upd (upd (upd (upd (upd (upd (upd (fun _ => 0) 0 0) 1 0) 2 6) 3 1) 4 0) 5 60) 6 1) 7 8)), (19, OB 1 [.ref 20, .null, .null, .null, .null, .null, .null, .null]), (21, IA 7 (upd (upd (upd (upd (upd (upd (fun _ => 0) 0 (-4)) 1 (-4)) 2 (-4)) 3 (-4)) 4 (-4)) 5 (-4)))])) rfl (vpI (by decide)) (by decide) dX1_init_83 (hov_up rfl) rfl ?_
  refine ew_dup (t := 85) dX1_init_84 rfl rfl ?_
  refine ew_bipush (t := 87) (v := 6) dX1_init_85 (by decide) rfl ?_
  refine ew_bipush (t := 89) (v := (-4)) dX1_init_87 (by decide) rfl ?_
  refine ew_iast (t := 90) (j := 6) (N := 7) (h' := (hov h [(20, IA 8 (upd (upd (upd (upd (upd (upd (upd (upd (fun _ => 0) 0 0) 1 0) 2 6) 3 1) 4 0) 5 60) 6 1) 7 8)), (19, OB 1 [.ref 20, .null, .null, .null, .null, .null, .null, .null]), (21, IA 7 (upd (upd (upd (upd (upd (upd (upd (fun _ => 0) 0 (-4)) 1 (-4)) 2 (-4)) 3 (-4)) 4 (-4)) 5 (-4)) 6 (-4)))])) rfl (vpI (by decide)) (by decide) dX1_init_89 (hov_up rfl) rfl ?_
  refine ew_putF (t := 93) (j := 1) (fs' := [.ref 20, .ref 21, .null, .null, .null, .null, .null, .null]) (h' := (hov h [(20, IA 8 (upd (upd (upd (upd (upd (upd (upd (upd (fun _ => 0) 0 0) 1 0) 2 6) 3 1) 4 0) 5 60) 6 1) 7 8)), (19, OB 1 [.ref 20, .ref 21, .null, .null, .null, .null, .null, .null]), (21, IA 7 (upd (upd (upd (upd (upd (upd (upd (fun _ => 0) 0 (-4)) 1 (-4)) 2 (-4)) 3 (-4)) 4 (-4)) 5 (-4)) 6 (-4)))])) fcX1 rfl (Nat.le_of_ble_eq_true rfl) rfl rfl rfl q128 rfl rfl (Nat.le_of_ble_eq_true rfl) rfl dX1_init_90 (hov_up rfl) rfl ?_
  refine ew_aload_n (t := 94) dX1_init_93 rfl rfl rfl ?_
  refine ew_bipush (t := 96) (v := 7) dX1_init_94 (by decide) rfl ?_
  refine ew_newI (t := 98) (N := 7) (h' := (hov h [(20, IA 8 (upd (upd (upd (upd (upd (upd (upd (upd (fun _ => 0) 0 0) 1 0) 2 6) 3 1) 4 0) 5 60) 6 1) 7 8)), (19, OB 1 [.ref 20, .ref 21, .null, .null, .null, .null, .null, .null]), (21, IA 7 (upd (upd (upd (upd (upd (upd (upd (fun _ => 0) 0 (-4)) 1 (-4)) 2 (-4)) 3 (-4)) 4 (-4)) 5 (-4)) 6 (-4))), (22, IA 7 (fun _ => 0))])) dX1_init_96 q123 (by decide) (by decide) (by decide) (by decide) (by decide) (hov_up rfl) rfl ?_
  refine EW.cnt (k' := 3) (sl' := 22) (n' := 23) rfl rfl rfl ?_
  refine ew_putF (t := 101) (j := 2) (fs' := [.ref 20, .ref 21, .ref 22, .null, .null, .null, .null, .null]) (h' := (hov h [(20, IA 8 (upd (upd (upd (upd (upd (upd (upd (upd (fun _ => 0) 0 0) 1 0) 2 6) 3 1) 4 0) 5 60) 6 1) 7 8)), (19, OB 1 [.ref 20, .ref 21, .ref 22, .null, .null, .null, .null, .null]), (21, IA 7 (upd (upd (upd (upd (upd (upd (upd (fun _ => 0) 0 (-4)) 1 (-4)) 2 (-4)) 3 (-4)) 4 (-4)) 5 (-4)) 6 (-4))), (22, IA 7 (fun _ => 0))])) fcX1 rfl (Nat.le_of_ble_eq_true rfl) rfl rfl rfl q130 rfl rfl (Nat.le_of_ble_eq_true rfl) rfl dX1_init_98 (hov_up rfl) rfl ?_
  refine ew_aload_n (t := 102) dX1_init_101 rfl rfl rfl ?_
  refine ew_sipush (t := 105) (v := 200) dX1_init_102 (by decide) rfl ?_
  refine ew_newB (t := 107) (N := 200) (h' := (hov h [(20, IA 8 (upd (upd (upd (upd (upd (upd (upd (upd (fun _ => 0) 0 0) 1 0) 2 6) 3 1) 4 0) 5 60) 6 1) 7 8)), (19, OB 1 [.ref 20, .ref 21, .ref 22, .null, .null, .null, .null, .null]), (21, IA 7 (upd (upd (upd (upd (upd (upd (upd (fun _ => 0) 0 (-4)) 1 (-4)) 2 (-4)) 3 (-4)) 4 (-4)) 5 (-4)) 6 (-4))), (22, IA 7 (fun _ => 0)), (23, BA 200 (fun _ => 0))])) dX1_init_105 q124 (by decide) (by decide) (by decide) (by decide) (by decide) (hov_up rfl) rfl ?_
  refine EW.cnt (k' := 4) (sl' := 222) (n' := 24) rfl rfl rfl ?_
  refine ew_putF (t := 110) (j := 3) (fs' := [.ref 20, .ref 21, .ref 22, .ref 23, .null, .null, .null, .null]) (h' := (hov h [(20, IA 8 (upd (upd (upd (upd (upd (upd (upd (upd (fun _ => 0) 0 0) 1 0) 2 6) 3 1) 4 0) 5 60) 6 1) 7 8)), (19, OB 1 [.ref 20, .ref 21, .ref 22, .ref 23, .null, .null, .null, .null]), (21, IA 7 (upd (upd (upd (upd (upd (upd (upd (fun _ => 0) 0 (-4)) 1 (-4)) 2 (-4)) 3 (-4)) 4 (-4)) 5 (-4)) 6 (-4))), (22, IA 7 (fun _ => 0)), (23, BA 200 (fun _ => 0))])) fcX1 rfl (Nat.le_of_ble_eq_true rfl) rfl rfl rfl q132 rfl rfl (Nat.le_of_ble_eq_true rfl) rfl dX1_init_107 (hov_up rfl) rfl ?_
  refine ew_aload_n (t := 111) dX1_init_110 rfl rfl rfl ?_
  refine ew_sipush (t := 114) (v := 200) dX1_init_111 (by decide) rfl ?_
  refine ew_newB (t := 116) (N := 200) (h' := (hov h [(20, IA 8 (upd (upd (upd (upd (upd (upd (upd (upd (fun _ => 0) 0 0) 1 0) 2 6) 3 1) 4 0) 5 60) 6 1) 7 8)), (19, OB 1 [.ref 20, .ref 21, .ref 22, .ref 23, .null, .null, .null, .null]), (21, IA 7 (upd (upd (upd (upd (upd (upd (upd (fun _ => 0) 0 (-4)) 1 (-4)) 2 (-4)) 3 (-4)) 4 (-4)) 5 (-4)) 6 (-4))), (22, IA 7 (fun _ => 0)), (23, BA 200 (fun _ => 0)), (24, BA 200 (fun _ => 0))])) dX1_init_114 q124 (by decide) (by decide) (by decide) (by decide) (by decide) (hov_up rfl) rfl ?_
  refine EW.cnt (k' := 5) (sl' := 422) (n' := 25) rfl rfl rfl ?_
  refine ew_putF (t := 119) (j := 4) (fs' := [.ref 20, .ref 21, .ref 22, .ref 23, .ref 24, .null, .null, .null]) (h' := (hov h [(20, IA 8 (upd (upd (upd (upd (upd (upd (upd (upd (fun _ => 0) 0 0) 1 0) 2 6) 3 1) 4 0) 5 60) 6 1) 7 8)), (19, OB 1 [.ref 20, .ref 21, .ref 22, .ref 23, .ref 24, .null, .null, .null]), (21, IA 7 (upd (upd (upd (upd (upd (upd (upd (fun _ => 0) 0 (-4)) 1 (-4)) 2 (-4)) 3 (-4)) 4 (-4)) 5 (-4)) 6 (-4))), (22, IA 7 (fun _ => 0)), (23, BA 200 (fun _ => 0)), (24, BA 200 (fun _ => 0))])) fcX1 rfl (Nat.le_of_ble_eq_true rfl) rfl rfl rfl q134 rfl rfl (Nat.le_of_ble_eq_true rfl) rfl dX1_init_116 (hov_up rfl) rfl ?_
  refine ew_aload_n (t := 120) dX1_init_119 rfl rfl rfl ?_
  refine ew_bipush (t := 122) (v := 100) dX1_init_120 (by decide) rfl ?_
  refine ew_newB (t := 124) (N := 100) (h' := (hov h [(20, IA 8 (upd (upd (upd (upd (upd (upd (upd (upd (fun _ => 0) 0 0) 1 0) 2 6) 3 1) 4 0) 5 60) 6 1) 7 8)), (19, OB 1 [.ref 20, .ref 21, .ref 22, .ref 23, .ref 24, .null, .null, .null]), (21, IA 7 (upd (upd (upd (upd (upd (upd (upd (fun _ => 0) 0 (-4)) 1 (-4)) 2 (-4)) 3 (-4)) 4 (-4)) 5 (-4)) 6 (-4))), (22, IA 7 (fun _ => 0)), (23, BA 200 (fun _ => 0)), (24, BA 200 (fun _ => 0)), (25, BA 100 (fun _ => 0))])) dX1_init_122 q124 (by decide) (by decide) (by decide) (by decide) (by decide) (hov_up rfl) rfl ?_
  refine EW.cnt (k' := 6) (sl' := 522) (n' := 26) rfl rfl rfl ?_
  refine ew_putF (t := 127) (j := 5) (fs' := [.ref 20, .ref 21, .ref 22, .ref 23, .ref 24, .ref 25, .null, .null]) (h' := (hov h [(20, IA 8 (upd (upd (upd (upd (upd (upd (upd (upd (fun _ => 0) 0 0) 1 0) 2 6) 3 1) 4 0) 5 60) 6 1) 7 8)), (19, OB 1 [.ref 20, .ref 21, .ref 22, .ref 23, .ref 24, .ref 25, .null, .null]), (21, IA 7 (upd (upd (upd (upd (upd (upd (upd (fun _ => 0) 0 (-4)) 1 (-4)) 2 (-4)) 3 (-4)) 4 (-4)) 5 (-4)) 6 (-4))), (22, IA 7 (fun _ => 0)), (23, BA 200 (fun _ => 0)), (24, BA 200 (fun _ => 0)), (25, BA 100 (fun _ => 0))])) fcX1 rfl (Nat.le_of_ble_eq_true rfl) rfl rfl rfl q137 rfl rfl (Nat.le_of_ble_eq_true rfl) rfl dX1_init_124 (hov_up rfl) rfl ?_
  refine ew_aload_n (t := 128) dX1_init_127 rfl rfl rfl ?_
  refine ew_new (t := 131) (fs := [.int 0, .null, .int 0]) (h' := (hov h [(20, IA 8 (upd (upd (upd (upd (upd (upd (upd (upd (fun _ => 0) 0 0) 1 0) 2 6) 3 1) 4 0) 5 60) 6 1) 7 8)), (19, OB 1 [.ref 20, .ref 21, .ref 22, .ref 23, .ref 24, .ref 25, .null, .null]), (21, IA 7 (upd (upd (upd (upd (upd (upd (upd (fun _ => 0) 0 (-4)) 1 (-4)) 2 (-4)) 3 (-4)) 4 (-4)) 5 (-4)) 6 (-4))), (22, IA 7 (fun _ => 0)), (23, BA 200 (fun _ => 0)), (24, BA 200 (fun _ => 0)), (25, BA 100 (fun _ => 0)), (26, OB 12 [.int 0, .null, .int 0])])) fcJ2 dX1_init_128 q97 q98 q55 (by decide) (by decide) rfl (hov_up rfl) rfl ?_
  refine EW.cnt (k' := 7) (sl' := 525) (n' := 27) rfl rfl rfl ?_
  refine ew_dup (t := 132) dX1_init_131 rfl rfl ?_
  refine ew_callI (t := 135) (As := []) (al_init (c := 26) (h := (hov h [(20, IA 8 (upd (upd (upd (upd (upd (upd (upd (upd (fun _ => 0) 0 0) 1 0) 2 6) 3 1) 4 0) 5 60) 6 1) 7 8)), (19, OB 1 [.ref 20, .ref 21, .ref 22, .ref 23, .ref 24, .ref 25, .null, .null]), (21, IA 7 (upd (upd (upd (upd (upd (upd (upd (fun _ => 0) 0 (-4)) 1 (-4)) 2 (-4)) 3 (-4)) 4 (-4)) 5 (-4)) 6 (-4))), (22, IA 7 (fun _ => 0)), (23, BA 200 (fun _ => 0)), (24, BA 200 (fun _ => 0)), (25, BA 100 (fun _ => 0)), (26, OB 12 [.int 0, .null, .int 0])])) rfl) q99 q100 q55 q101 rfl naJ2_init dX1_init_132 rfl (Nat.le_of_ble_eq_true rfl) (Nat.le_of_ble_eq_true rfl) (by omega) (by omega) (Nat.le_of_ble_eq_true rfl) rfl (qv ?_)
  refine EW.heap (h' := (hov h [(20, IA 8 (upd (upd (upd (upd (upd (upd (upd (upd (fun _ => 0) 0 0) 1 0) 2 6) 3 1) 4 0) 5 60) 6 1) 7 8)), (19, OB 1 [.ref 20, .ref 21, .ref 22, .ref 23, .ref 24, .ref 25, .null, .null]), (21, IA 7 (upd (upd (upd (upd (upd (upd (upd (fun _ => 0) 0 (-4)) 1 (-4)) 2 (-4)) 3 (-4)) 4 (-4)) 5 (-4)) 6 (-4))), (22, IA 7 (fun _ => 0)), (23, BA 200 (fun _ => 0)), (24, BA 200 (fun _ => 0)), (25, BA 100 (fun _ => 0)), (26, OB 12 [.int 0, .ref 0, .int 0])])) (hov_hov _ _ rfl) ?_
  refine ew_putF (t := 138) (j := 6) (fs' := [.ref 20, .ref 21, .ref 22, .ref 23, .ref 24, .ref 25, .ref 26, .null]) (h' := (hov h [(20, IA 8 (upd (upd (upd (upd (upd (upd (upd (upd (fun _ => 0) 0 0) 1 0) 2 6) 3 1) 4 0) 5 60) 6 1) 7 8)), (19, OB 1 [.ref 20, .ref 21, .ref 22, .ref 23, .ref 24, .ref 25, .ref 26, .null]), (21, IA 7 (upd (upd (upd (upd (upd (upd (upd (fun _ => 0) 0 (-4)) 1 (-4)) 2 (-4)) 3 (-4)) 4 (-4)) 5 (-4)) 6 (-4))), (22, IA 7 (fun _ => 0)), (23, BA 200 (fun _ => 0)), (24, BA 200 (fun _ => 0)), (25, BA 100 (fun _ => 0)), (26, OB 12 [.int 0, .ref 0, .int 0])])) fcX1 rfl (Nat.le_of_ble_eq_true rfl) rfl rfl rfl q139 rfl rfl (Nat.le_of_ble_eq_true rfl) rfl dX1_init_135 (hov_up rfl) rfl ?_
  refine ew_aload_n (t := 139) dX1_init_138 rfl rfl rfl ?_
  refine ew_new (t := 142) (fs := [.int 0, .null, .int 0]) (h' := (hov h [(20, IA 8 (upd (upd (upd (upd (upd (upd (upd (upd (fun _ => 0) 0 0) 1 0) 2 6) 3 1) 4 0) 5 60) 6 1) 7 8)), (19, OB 1 [.ref 20, .ref 21, .ref 22, .ref 23, .ref 24, .ref 25, .ref 26, .null]), (21, IA 7 (upd (upd (upd (upd (upd (upd (upd (fun _ => 0) 0 (-4)) 1 (-4)) 2 (-4)) 3 (-4)) 4 (-4)) 5 (-4)) 6 (-4))), (22, IA 7 (fun _ => 0)), (23, BA 200 (fun _ => 0)), (24, BA 200 (fun _ => 0)), (25, BA 100 (fun _ => 0)), (26, OB 12 [.int 0, .ref 0, .int 0]), (27, OB 12 [.int 0, .null, .int 0])])) fcJ2 dX1_init_139 q97 q98 q55 (by decide) (by decide) rfl (hov_up rfl) rfl ?_
  refine EW.cnt (k' := 8) (sl' := 528) (n' := 28) rfl rfl rfl ?_
  refine ew_dup (t := 143) dX1_init_142 rfl rfl ?_
  refine ew_callI (t := 146) (As := []) (al_init (c := 27) (h := (hov h [(20, IA 8 (upd (upd (upd (upd (upd (upd (upd (upd (fun _ => 0) 0 0) 1 0) 2 6) 3 1) 4 0) 5 60) 6 1) 7 8)), (19, OB 1 [.ref 20, .ref 21, .ref 22, .ref 23, .ref 24, .ref 25, .ref 26, .null]), (21, IA 7 (upd (upd (upd (upd (upd (upd (upd (fun _ => 0) 0 (-4)) 1 (-4)) 2 (-4)) 3 (-4)) 4 (-4)) 5 (-4)) 6 (-4))), (22, IA 7 (fun _ => 0)), (23, BA 200 (fun _ => 0)), (24, BA 200 (fun _ => 0)), (25, BA 100 (fun _ => 0)), (26, OB 12 [.int 0, .ref 0, .int 0]), (27, OB 12 [.int 0, .null, .int 0])])) rfl) q99 q100 q55 q101 rfl naJ2_init dX1_init_143 rfl (Nat.le_of_ble_eq_true rfl) (Nat.le_of_ble_eq_true rfl) (by omega) (by omega) (Nat.le_of_ble_eq_true rfl) rfl (qv ?_)
  refine EW.heap (h' := (hov h [(20, IA 8 (upd (upd (upd (upd (upd (upd (upd (upd (fun _ => 0) 0 0) 1 0) 2 6) 3 1) 4 0) 5 60) 6 1) 7 8)), (19, OB 1 [.ref 20, .ref 21, .ref 22, .ref 23, .ref 24, .ref 25, .ref 26, .null]), (21, IA 7 (upd (upd (upd (upd (upd (upd (upd (fun _ => 0) 0 (-4)) 1 (-4)) 2 (-4)) 3 (-4)) 4 (-4)) 5 (-4)) 6 (-4))), (22, IA 7 (fun _ => 0)), (23, BA 200 (fun _ => 0)), (24, BA 200 (fun _ => 0)), (25, BA 100 (fun _ => 0)), (26, OB 12 [.int 0, .ref 0, .int 0]), (27, OB 12 [.int 0, .ref 0, .int 0])])) (hov_hov _ _ rfl) ?_
  refine ew_putF (t := 149) (j := 7) (fs' := [.ref 20, .ref 21, .ref 22, .ref 23, .ref 24, .ref 25, .ref 26, .ref 27]) (h' := (hov h [(20, IA 8 (upd (upd (upd (upd (upd (upd (upd (upd (fun _ => 0) 0 0) 1 0) 2 6) 3 1) 4 0) 5 60) 6 1) 7 8)), (19, OB 1 [.ref 20, .ref 21, .ref 22, .ref 23, .ref 24, .ref 25, .ref 26, .ref 27]), (21, IA 7 (upd (upd (upd (upd (upd (upd (upd (fun _ => 0) 0 (-4)) 1 (-4)) 2 (-4)) 3 (-4)) 4 (-4)) 5 (-4)) 6 (-4))), (22, IA 7 (fun _ => 0)), (23, BA 200 (fun _ => 0)), (24, BA 200 (fun _ => 0)), (25, BA 100 (fun _ => 0)), (26, OB 12 [.int 0, .ref 0, .int 0]), (27, OB 12 [.int 0, .ref 0, .int 0])])) fcX1 rfl (Nat.le_of_ble_eq_true rfl) rfl rfl rfl q141 rfl rfl (Nat.le_of_ble_eq_true rfl) rfl dX1_init_146 (hov_up rfl) rfl ?_
  obtain ⟨h0, e0⟩ : ∃ x, x = (hov h [(20, IA 8 (upd (upd (upd (upd (upd (upd (upd (upd (fun _ => 0) 0 0) 1 0) 2 6) 3 1) 4 0) 5 60) 6 1) 7 8)), (19, OB 1 [.ref 20, .ref 21, .ref 22, .ref 23, .ref 24, .ref 25, .ref 26, .ref 27]), (21, IA 7 (upd (upd (upd (upd (upd (upd (upd (fun _ => 0) 0 (-4)) 1 (-4)) 2 (-4)) 3 (-4)) 4 (-4)) 5 (-4)) 6 (-4))), (22, IA 7 (fun _ => 0)), (23, BA 200 (fun _ => 0)), (24, BA 200 (fun _ => 0)), (25, BA 100 (fun _ => 0)), (26, OB 12 [.int 0, .ref 0, .int 0]), (27, OB 12 [.int 0, .ref 0, .int 0])]) := ⟨_, rfl⟩
  rw [← e0]
  refine ew_ic0 (t := 150) dX1_init_149 rfl ?_
  refine ew_istore_n (t := 151) (L' := [some (.ref 19), some (.int 0)]) dX1_init_150 rfl (Nat.le_of_ble_eq_true rfl) rfl rfl ?_
  refine EW.ov2 (a := 25) (b := 23) (by rw [e0]; rfl) (by rw [e0]; rfl) ?_
  refine lt_loop19 (h := h0) (f0 := fun _ => 0) (f1 := fun _ => 0) (by rw [e0]; rfl) ?_ 100 0 rfl
  refine ew_vret rfl dX1_init_189 (by omega) (by omega) ?_
  refine ⟨rfl, rfl, ⟨(by rw [e0]; rfl), ?_, ?_, (by rw [e0]; rfl), ?_, (by rw [e0]; rfl), ?_⟩, (by rw [e0]; rfl), (by rw [e0]; rfl), fun k hk => ?_⟩
  · rw [← set_eqT, e0]; rfl
  · rw [← far_eqT, e0]; rfl
  · rw [← cuK_eq]; rfl
  · rw [hv_hit, flK_eq]; rfl
  · refine (hv_miss (by omega)).trans ((hv_miss (by omega)).trans ?_)
    rw [hv_nil, e0]
    exact (hv_miss (by omega)).trans ((hv_miss (by omega)).trans ((hv_miss (by omega)).trans ((hv_miss (by omega)).trans ((hv_miss (by omega)).trans ((hv_miss (by omega)).trans ((hv_miss (by omega)).trans ((hv_miss (by omega)).trans (hv_miss (by omega)))))))))
