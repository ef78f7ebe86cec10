-- Obj fields dict_keys(['cls', 'fun', 'sname', 'refs', 'extra', 'ups'])
/-! the component: what its hearers do with a way -/
set_option maxRecDepth 100000
set_option maxHeartbeats 600000 in
theorem ax_wayC {l : Launch} {G : GW} {h : AH} {n : Nat} {to : Nat} (hto : 63 ≤ to) {cn wt : Int32} {cw : Int64} (xt : h to = some (OB 5 [.int cn, .long cw])) : AM l G yX6_way cX6_way 3 (some .boolean) 0 0 0 [.ref to, .ref 1, .int wt] h n (Qi 1 (hov h [(to, OB 5 [.int (cn + 1), .long (cw + wt.toInt64)])]) n) := by
  refine AM.of (L := [some (.ref to), some (.ref 1), some (.int wt)]) (by decide) (Nat.le_of_ble_eq_true rfl) rfl ?_
  refine ew_aload_n (t := 1) dX6_way_0 rfl rfl rfl ?_
  refine ew_dup (t := 2) dX6_way_1 rfl rfl ?_
  refine ew_get (t := 5) (j := 0) (v := .int cn) fcX6 xt (Nat.le_of_ble_eq_true rfl) q412 rfl dX6_way_2 rfl ?_
  refine ew_ic1 (t := 6) dX6_way_5 rfl ?_
  refine ew_iadd (t := 7) dX6_way_6 rfl ?_
  refine ew_put (t := 10) (j := 0) (fs' := [.int (cn + 1), .long cw]) (h' := (hov h [(to, OB 5 [.int (cn + 1), .long cw])])) fcX6 xt (Nat.le_of_ble_eq_true rfl) rfl q412 rfl rfl (Nat.le_of_ble_eq_true rfl) rfl dX6_way_7 hov_up0 rfl ?_
  refine ew_aload_n (t := 11) dX6_way_10 rfl rfl rfl ?_
  refine ew_dup (t := 12) dX6_way_11 rfl rfl ?_
  refine ew_get (t := 15) (j := 1) (v := .long cw) fcX6 hv_hit (Nat.le_of_ble_eq_true rfl) q414 rfl dX6_way_12 rfl ?_
  refine ew_iload_n (t := 16) dX6_way_15 rfl rfl rfl ?_
  refine ew_i2l (t := 17) dX6_way_16 rfl ?_
  refine ew_ladd (t := 18) dX6_way_17 rfl ?_
  refine ew_put (t := 21) (j := 1) (fs' := [.int (cn + 1), .long (cw + wt.toInt64)]) (h' := (hov h [(to, OB 5 [.int (cn + 1), .long (cw + wt.toInt64)])])) fcX6 hv_hit (Nat.le_of_ble_eq_true rfl) rfl q414 rfl rfl (Nat.le_of_ble_eq_true rfl) rfl dX6_way_18 hov_set_hit rfl ?_
  refine ew_ic1 (t := 22) dX6_way_21 rfl ?_
  exact ew_zret rfl (by decide) dX6_way_22 (Nat.le_refl _) (Nat.le_refl _) ⟨rfl, rfl, rfl⟩
def seB (le : Int32) : Int32 := if le - 1 < 0 then 0 else 1
set_option maxHeartbeats 600000 in
theorem ax_wayS {l : Launch} {G : GW} {h : AH} {n : Nat} {to : Nat} (hto : 63 ≤ to) {le sw su ss wt : Int32} {sc ce s : Nat → Int32} (x1 : h 1 = some (XO s)) (x16 : h 16 = some (IA 7 ce)) (xt : h to = some (OB 6 [.int le, .int sw, .int su, .int ss, .ref (to + 1)])) (xa : h (to + 1) = some (IA 7 sc)) (hs12 : s 12 = 0 ∨ s 12 = 1) : AM l G yX7_way cX7_way 3 (some .boolean) 1 0 0 [.ref to, .ref 1, .int wt] h n (Qi (seB le) (if ¬ le = 0 then hov h [(to, OB 6 [.int (le - 1), .int sw, .int su, .int ss, .ref (to + 1)])] else hov h [(to, OB 6 [.int (le - 1), .int wt, .int (s 11), .int (s 12), .ref (to + 1)]), ((to + 1), IA 7 (va_cpy ce sc 0 0 7))]) n) := by
  refine AM.of (L := [some (.ref to), some (.ref 1), some (.int wt)]) (by decide) (Nat.le_of_ble_eq_true rfl) rfl ?_
  refine ew_aload_n (t := 1) dX7_way_0 rfl rfl rfl ?_
  refine ew_get (t := 4) (j := 0) (v := .int le) fcX7 xt (Nat.le_of_ble_eq_true rfl) q503 rfl dX7_way_1 rfl ?_
  refine ew_if_ne (t := 43) (t2 := 7) dX7_way_4 rfl rfl (fun c_4 => ?_) (fun c_4 => ?_)
  · refine ew_aload_n (t := 44) dX7_way_43 rfl rfl rfl ?_
    refine ew_dup (t := 45) dX7_way_44 rfl rfl ?_
    refine ew_get (t := 48) (j := 0) (v := .int le) fcX7 xt (Nat.le_of_ble_eq_true rfl) q503 rfl dX7_way_45 rfl ?_
    refine ew_ic1 (t := 49) dX7_way_48 rfl ?_
    refine ew_isub (t := 50) dX7_way_49 rfl ?_
    refine ew_put (t := 53) (j := 0) (fs' := [.int (le - 1), .int sw, .int su, .int ss, .ref (to + 1)]) (h' := (hov h [(to, OB 6 [.int (le - 1), .int sw, .int su, .int ss, .ref (to + 1)])])) fcX7 xt (Nat.le_of_ble_eq_true rfl) rfl q503 rfl rfl (Nat.le_of_ble_eq_true rfl) rfl dX7_way_50 hov_up0 rfl ?_
    refine ew_aload_n (t := 54) dX7_way_53 rfl rfl rfl ?_
    refine ew_get (t := 57) (j := 0) (v := .int (le - 1)) fcX7 hv_hit (Nat.le_of_ble_eq_true rfl) q503 rfl dX7_way_54 rfl ?_
    refine ew_if_lt (t := 64) (t2 := 60) dX7_way_57 rfl rfl (fun c_57 => ?_) (fun c_57 => ?_)
    · refine ew_ic0 (t := 65) dX7_way_64 rfl ?_
      exact ew_zret rfl (by decide) dX7_way_65 (Nat.le_refl _) (Nat.le_refl _) ⟨by unfold seB; rw [if_pos c_57], by rw [if_pos c_4], rfl⟩
    · refine ew_ic1 (t := 61) dX7_way_60 rfl ?_
      refine ew_goto (t := 65) dX7_way_61 rfl ?_
      exact ew_zret rfl (by decide) dX7_way_65 (Nat.le_refl _) (Nat.le_refl _) ⟨by unfold seB; rw [if_neg c_57], by rw [if_pos c_4], rfl⟩
  · refine ew_aload_n (t := 8) dX7_way_7 rfl rfl rfl ?_
    refine ew_iload_n (t := 9) dX7_way_8 rfl rfl rfl ?_
    refine ew_put (t := 12) (j := 1) (fs' := [.int le, .int wt, .int su, .int ss, .ref (to + 1)]) (h' := (hov h [(to, OB 6 [.int le, .int wt, .int su, .int ss, .ref (to + 1)])])) fcX7 xt (Nat.le_of_ble_eq_true rfl) rfl q505 rfl rfl (Nat.le_of_ble_eq_true rfl) rfl dX7_way_9 hov_up0 rfl ?_
    refine ew_aload_n (t := 13) dX7_way_12 rfl rfl rfl ?_
    refine ew_aload_n (t := 14) dX7_way_13 rfl rfl rfl ?_
    refine ew_getN (t := 17) (j := 11) (v := .int (s 11)) fcX0 ((hv_miss (by omega)).trans x1) (Nat.le_of_ble_eq_true rfl) q271 rfl dX7_way_14 rfl ?_
    refine ew_put (t := 20) (j := 2) (fs' := [.int le, .int wt, .int (s 11), .int ss, .ref (to + 1)]) (h' := (hov h [(to, OB 6 [.int le, .int wt, .int (s 11), .int ss, .ref (to + 1)])])) fcX7 hv_hit (Nat.le_of_ble_eq_true rfl) rfl q507 rfl rfl (Nat.le_of_ble_eq_true rfl) rfl dX7_way_17 hov_set_hit rfl ?_
    refine ew_aload_n (t := 21) dX7_way_20 rfl rfl rfl ?_
    refine ew_aload_n (t := 22) dX7_way_21 rfl rfl rfl ?_
    refine ew_getN (t := 25) (j := 12) (v := .int (s 12)) fcX0 ((hv_miss (by omega)).trans x1) (Nat.le_of_ble_eq_true rfl) q273 rfl dX7_way_22 rfl ?_
    refine ew_put (t := 28) (j := 3) (fs' := [.int le, .int wt, .int (s 11), .int (s 12), .ref (to + 1)]) (h' := (hov h [(to, OB 6 [.int le, .int wt, .int (s 11), .int (s 12), .ref (to + 1)])])) fcX7 hv_hit (Nat.le_of_ble_eq_true rfl) rfl q509 (by rcases hs12 with e | e <;> (rw [e]; decide)) (by rcases hs12 with e | e <;> (rw [e]; decide)) (Nat.le_of_ble_eq_true rfl) rfl dX7_way_25 hov_set_hit rfl ?_
    refine ew_aload_n (t := 29) dX7_way_28 rfl rfl rfl ?_
    refine ew_getN (t := 32) (j := 8) (v := .ref 16) fcX0 ((hv_miss (by omega)).trans x1) (Nat.le_of_ble_eq_true rfl) q266 rfl dX7_way_29 rfl ?_
    refine ew_ic0 (t := 33) dX7_way_32 rfl ?_
    refine ew_aload_n (t := 34) dX7_way_33 rfl rfl rfl ?_
    refine ew_get (t := 37) (j := 4) (v := .ref (to + 1)) fcX7 hv_hit (Nat.le_of_ble_eq_true rfl) q511 rfl dX7_way_34 rfl ?_
    refine ew_ic0 (t := 38) dX7_way_37 rfl ?_
    refine ew_bipush (t := 40) (v := 7) dX7_way_38 (by decide) rfl ?_
    refine ew_copyI (t := 43) (K := 0) (ty := .int) (sp := 0) (dp := 0) (N := 7) (h' := (hov h [(to, OB 6 [.int le, .int wt, .int (s 11), .int (s 12), .ref (to + 1)]), ((to + 1), IA 7 (va_cpy ce sc 0 0 7))])) q476 q359 q358 q61 ((hv_miss (by omega)).trans x16) ((hv_miss (by omega)).trans xa) rfl rfl (by decide) (by decide) (by decide) (by decide) (by decide) (by decide) (by decide) (by decide) (fun _ _ => rfl) dX7_way_40 (Nat.le_of_ble_eq_true rfl) (Nat.le_of_ble_eq_true rfl) (hov_set_miss (by omega) hov_set_nil) rfl ?_
    refine ew_aload_n (t := 44) dX7_way_43 rfl rfl rfl ?_
    refine ew_dup (t := 45) dX7_way_44 rfl rfl ?_
    refine ew_get (t := 48) (j := 0) (v := .int le) fcX7 hv_hit (Nat.le_of_ble_eq_true rfl) q503 rfl dX7_way_45 rfl ?_
    refine ew_ic1 (t := 49) dX7_way_48 rfl ?_
    refine ew_isub (t := 50) dX7_way_49 rfl ?_
    refine ew_put (t := 53) (j := 0) (fs' := [.int (le - 1), .int wt, .int (s 11), .int (s 12), .ref (to + 1)]) (h' := (hov h [(to, OB 6 [.int (le - 1), .int wt, .int (s 11), .int (s 12), .ref (to + 1)]), ((to + 1), IA 7 (va_cpy ce sc 0 0 7))])) fcX7 hv_hit (Nat.le_of_ble_eq_true rfl) rfl q503 rfl rfl (Nat.le_of_ble_eq_true rfl) rfl dX7_way_50 hov_set_hit rfl ?_
    refine ew_aload_n (t := 54) dX7_way_53 rfl rfl rfl ?_
    refine ew_get (t := 57) (j := 0) (v := .int (le - 1)) fcX7 hv_hit (Nat.le_of_ble_eq_true rfl) q503 rfl dX7_way_54 rfl ?_
    refine ew_if_lt (t := 64) (t2 := 60) dX7_way_57 rfl rfl (fun c_57 => ?_) (fun c_57 => ?_)
    · refine ew_ic0 (t := 65) dX7_way_64 rfl ?_
      exact ew_zret rfl (by decide) dX7_way_65 (Nat.le_refl _) (Nat.le_refl _) ⟨by unfold seB; rw [if_pos c_57], by rw [if_neg (not_not_intro c_4)], rfl⟩
    · refine ew_ic1 (t := 61) dX7_way_60 rfl ?_
      refine ew_goto (t := 65) dX7_way_61 rfl ?_
      exact ew_zret rfl (by decide) dX7_way_65 (Nat.le_refl _) (Nat.le_refl _) ⟨by unfold seB; rw [if_neg c_57], by rw [if_neg (not_not_intro c_4)], rfl⟩
set_option maxHeartbeats 600000 in
theorem ax_wayM {l : Launch} {G : GW} {h : AH} {n : Nat} {to : Nat} (hto : 63 ≤ to) {wt : Int32} {mk ce s : Nat → Int32} {hr c : Nat} (hhr : hr < 7) (hc : ce hr = nI c) (hc1 : c < 100) (x1 : h 1 = some (XO s)) (x16 : h 16 = some (IA 7 ce)) (xt : h to = some (OB 7 [.int (nI hr), .ref (to + 1)])) (xa : h (to + 1) = some (ZA 100 mk)) : AM l G yX8_way cX8_way 3 (some .boolean) 0 0 0 [.ref to, .ref 1, .int wt] h n (Qi 1 (hov h [((to + 1), ZA 100 (upd mk c 1))]) n) := by
  refine AM.of (L := [some (.ref to), some (.ref 1), some (.int wt)]) (by decide) (Nat.le_of_ble_eq_true rfl) rfl ?_
  refine ew_aload_n (t := 1) dX8_way_0 rfl rfl rfl ?_
  refine ew_get (t := 4) (j := 1) (v := .ref (to + 1)) fcX8 xt (Nat.le_of_ble_eq_true rfl) q536 rfl dX8_way_1 rfl ?_
  refine ew_aload_n (t := 5) dX8_way_4 rfl rfl rfl ?_
  refine ew_getN (t := 8) (j := 8) (v := .ref 16) fcX0 x1 (Nat.le_of_ble_eq_true rfl) q264 rfl dX8_way_5 rfl ?_
  refine ew_aload_n (t := 9) dX8_way_8 rfl rfl rfl ?_
  refine ew_get (t := 12) (j := 0) (v := .int (nI hr)) fcX8 xt (Nat.le_of_ble_eq_true rfl) q534 rfl dX8_way_9 rfl ?_
  refine ew_iald (t := 13) (j := hr) (N := 7) x16 (vp_in_nI (by omega) (by omega)) (nI_clamp (by omega)) dX8_way_12 rfl ?_
  rw [hc]
  refine ew_ic1 (t := 14) dX8_way_13 rfl ?_
  refine ew_zast (t := 15) (j := c) (N := 100) (h' := (hov h [((to + 1), ZA 100 (upd mk c (vp_nar .boolean 1)))])) xa (vp_in_nI (by omega) (by omega)) (nI_clamp (by omega)) dX8_way_14 hov_up0 rfl ?_
  refine ew_ic1 (t := 16) dX8_way_15 rfl ?_
  exact ew_zret rfl (by decide) dX8_way_16 (Nat.le_refl _) (Nat.le_refl _) ⟨rfl, rfl, rfl⟩
/-- whether the cells so far are those sought -/
def kwF (ce kc : Nat → Int32) : Nat → Bool
  | 0 => true
  | k + 1 => kwF ce kc k && decide (ce k = kc k)
theorem kw_step {ce kc : Nat → Int32} {k : Nat} : b2i (kwF ce kc k) &&& (if ¬ ce k = kc k then (0 : Int32) else 1) = b2i (kwF ce kc (k + 1)) := by
  show _ = b2i (kwF ce kc k && decide (ce k = kc k))
  by_cases c : ce k = kc k
  · rw [if_neg (not_not_intro c), decide_eq_true c]; cases kwF ce kc k <;> decide
  · rw [if_pos c, decide_eq_false c]; cases kwF ce kc k <;> decide
set_option maxHeartbeats 600000 in
theorem lx_wayK {l : Launch} {G : GW} {h : AH} {n : Nat} {to : Nat} (hto : 63 ≤ to) {kc ce s FS : Nat → Int32} {H : Nat} {kn : Bool} (hH : FS 2 = nI H) (hH6 : H ≤ 6) (x1 : h 1 = some (XO s)) (x16 : h 16 = some (IA 7 ce)) (x2 : h 2 = some TO0) (x3 : h 3 = some (IA 8 FS)) (xt : h to = some (OB 11 [.ref (to + 1), .int (b2i kn)])) (xa : h (to + 1) = some (IA 7 kc)) {wt : Int32} : ∀ (f k : Nat), k + f = H + 1 → EW l G yX12_way cX12_way 5 (some .boolean) 1 0 0 (Qi (b2i (!(kn || kwF ce kc (H + 1)))) (hov h [(to, OB 11 [.ref (to + 1), .int (b2i (kn || kwF ce kc (H + 1)))])]) n) 0 0 h n 5 [some (.ref to), some (.ref 1), some (.int wt), some (.int (b2i (kwF ce kc k))), some (.int (nI k))] [] := by
  intro f
  induction f with
  | zero =>
    intro k hk
    refine ew_iload (t := 7) dX12_way_5 rfl rfl ?_
    refine ew_aload_n (t := 8) dX12_way_7 rfl rfl rfl ?_
    refine ew_getN (t := 11) (j := 0) (v := .ref 2) fcX0 x1 (Nat.le_of_ble_eq_true rfl) q254 rfl dX12_way_8 rfl ?_
    refine ew_callV (t := 14) (As := []) (ax_hours x2 x3) (fcX1).1 x2 (lw_V q469 q447 q448 q52 q449) rfl naX1_hours dX12_way_11 rfl (Nat.le_of_ble_eq_true rfl) (Nat.le_of_ble_eq_true rfl) (Nat.le_refl _) (Nat.le_refl _) (Nat.le_of_ble_eq_true rfl) rfl (qi ?_)
    rw [hH]
    refine ew_icmp_gt (t := 48) (t2 := 17) dX12_way_14 rfl rfl (fun c_14 => ?_) (fun c_14 => ?_)
    · refine ew_aload_n (t := 49) dX12_way_48 rfl rfl rfl ?_
      refine ew_dup (t := 50) dX12_way_49 rfl rfl ?_
      refine ew_get (t := 53) (j := 1) (v := .int (b2i kn)) fcX12 xt (Nat.le_of_ble_eq_true rfl) q835 rfl dX12_way_50 rfl ?_
      refine ew_iload_n (t := 54) dX12_way_53 rfl rfl rfl ?_
      refine ew_ior (t := 55) dX12_way_54 rfl ?_
      have ek : k = H + 1 := by omega
      subst ek
      rw [show b2i kn ||| b2i (kwF ce kc (H + 1)) = b2i (kn || kwF ce kc (H + 1)) from by cases kn <;> cases kwF ce kc (H + 1) <;> decide]
      refine ew_put (t := 58) (j := 1) (fs' := [.ref (to + 1), .int (b2i (kn || kwF ce kc (H + 1)))]) (h' := (hov h [(to, OB 11 [.ref (to + 1), .int (b2i (kn || kwF ce kc (H + 1)))])])) fcX12 xt (Nat.le_of_ble_eq_true rfl) rfl q835 (b2i_nar _) (b2i_fit _) (Nat.le_of_ble_eq_true rfl) rfl dX12_way_55 hov_up0 rfl ?_
      refine ew_aload_n (t := 59) dX12_way_58 rfl rfl rfl ?_
      refine ew_get (t := 62) (j := 1) (v := .int (b2i (kn || kwF ce kc (H + 1)))) fcX12 hv_hit (Nat.le_of_ble_eq_true rfl) q835 rfl dX12_way_59 rfl ?_
      refine ew_if_ne (t := 69) (t2 := 65) dX12_way_62 rfl rfl (fun c_62 => ?_) (fun c_62 => ?_)
      · refine ew_ic0 (t := 70) dX12_way_69 rfl ?_
        exact ew_zret rfl (by decide) dX12_way_70 (Nat.le_refl _) (Nat.le_refl _) ⟨by rw [show (kn || kwF ce kc (H + 1)) = true from b2i_1.mp c_62]; rfl, rfl, rfl⟩
      · refine ew_ic1 (t := 66) dX12_way_65 rfl ?_
        refine ew_goto (t := 70) dX12_way_66 rfl ?_
        exact ew_zret rfl (by decide) dX12_way_70 (Nat.le_refl _) (Nat.le_refl _) ⟨by rw [show (kn || kwF ce kc (H + 1)) = false from b2i_0.mp c_62]; rfl, rfl, rfl⟩
    · exact absurd (nI_lt (a := H) (b := k) (by omega) (by omega)) c_14
  | succ f ih =>
    intro k hk
    refine ew_iload (t := 7) dX12_way_5 rfl rfl ?_
    refine ew_aload_n (t := 8) dX12_way_7 rfl rfl rfl ?_
    refine ew_getN (t := 11) (j := 0) (v := .ref 2) fcX0 x1 (Nat.le_of_ble_eq_true rfl) q254 rfl dX12_way_8 rfl ?_
    refine ew_callV (t := 14) (As := []) (ax_hours x2 x3) (fcX1).1 x2 (lw_V q469 q447 q448 q52 q449) rfl naX1_hours dX12_way_11 rfl (Nat.le_of_ble_eq_true rfl) (Nat.le_of_ble_eq_true rfl) (Nat.le_refl _) (Nat.le_refl _) (Nat.le_of_ble_eq_true rfl) rfl (qi ?_)
    rw [hH]
    refine ew_icmp_gt (t := 48) (t2 := 17) dX12_way_14 rfl rfl (fun c_14 => ?_) (fun c_14 => ?_)
    · exact absurd c_14 (nI_nlt (a := H) (b := k) (by omega) (by omega))
    · refine ew_iload_n (t := 18) dX12_way_17 rfl rfl rfl ?_
      refine ew_aload_n (t := 19) dX12_way_18 rfl rfl rfl ?_
      refine ew_getN (t := 22) (j := 8) (v := .ref 16) fcX0 x1 (Nat.le_of_ble_eq_true rfl) q265 rfl dX12_way_19 rfl ?_
      refine ew_iload (t := 24) dX12_way_22 rfl rfl ?_
      refine ew_iald (t := 25) (j := k) (N := 7) x16 (vp_in_nI (by omega) (by omega)) (nI_clamp (by omega)) dX12_way_24 rfl ?_
      refine ew_aload_n (t := 26) dX12_way_25 rfl rfl rfl ?_
      refine ew_get (t := 29) (j := 0) (v := .ref (to + 1)) fcX12 xt (Nat.le_of_ble_eq_true rfl) q833 rfl dX12_way_26 rfl ?_
      refine ew_iload (t := 31) dX12_way_29 rfl rfl ?_
      refine ew_iald (t := 32) (j := k) (N := 7) xa (vp_in_nI (by omega) (by omega)) (nI_clamp (by omega)) dX12_way_31 rfl ?_
      have J40 : ∀ (j40_0 : Int32), j40_0 = ((if ¬ (ce k) = (kc k) then 0 else 1) : Int32) → EW l G yX12_way cX12_way 5 (some .boolean) 1 0 0 (Qi (b2i (!(kn || kwF ce kc (H + 1)))) (hov h [(to, OB 11 [.ref (to + 1), .int (b2i (kn || kwF ce kc (H + 1)))])]) n) 0 0 h n 40 [some (.ref to), some (.ref 1), some (.int wt), some (.int (b2i (kwF ce kc k))), some (.int (nI k))] [.int j40_0, .int (b2i (kwF ce kc k))] := by
        intro j40_0 hj40_0
        refine ew_iand (t := 41) dX12_way_40 rfl ?_
        rw [hj40_0, kw_step]
        refine ew_istore_n (t := 42) (L' := [some (.ref to), some (.ref 1), some (.int wt), some (.int (b2i (kwF ce kc (k + 1)))), some (.int (nI k))]) dX12_way_41 rfl (Nat.le_of_ble_eq_true rfl) rfl rfl ?_
        refine ew_iinc (t := 45) (x := (nI k)) (v := ((nI k) + 1)) (L' := [some (.ref to), some (.ref 1), some (.int wt), some (.int (b2i (kwF ce kc (k + 1)))), some (.int ((nI k) + 1))]) dX12_way_42 rfl rfl (Nat.le_of_ble_eq_true rfl) rfl rfl ?_
        refine ew_goto (t := 5) dX12_way_45 rfl ?_
        rw [nI_1]
        exact ih (k + 1) (by omega)
      refine ew_icmp_ne (t := 39) (t2 := 35) dX12_way_32 rfl rfl (fun c_32 => ?_) (fun c_32 => ?_)
      · refine ew_ic0 (t := 40) dX12_way_39 rfl ?_
        exact J40 0 (by simp only [if_pos c_32])
      · refine ew_ic1 (t := 36) dX12_way_35 rfl ?_
        refine ew_goto (t := 40) dX12_way_36 rfl ?_
        exact J40 1 (by simp only [if_neg (not_not_intro c_32)])
set_option maxHeartbeats 600000 in
theorem ax_wayK {l : Launch} {G : GW} {h : AH} {n : Nat} {to : Nat} (hto : 63 ≤ to) {kc ce s FS : Nat → Int32} {H : Nat} {kn : Bool} (hH : FS 2 = nI H) (hH6 : H ≤ 6) (x1 : h 1 = some (XO s)) (x16 : h 16 = some (IA 7 ce)) (x2 : h 2 = some TO0) (x3 : h 3 = some (IA 8 FS)) (xt : h to = some (OB 11 [.ref (to + 1), .int (b2i kn)])) (xa : h (to + 1) = some (IA 7 kc)) {wt : Int32} : AM l G yX12_way cX12_way 5 (some .boolean) 1 0 0 [.ref to, .ref 1, .int wt] h n (Qi (b2i (!(kn || kwF ce kc (H + 1)))) (hov h [(to, OB 11 [.ref (to + 1), .int (b2i (kn || kwF ce kc (H + 1)))])]) n) := by
  refine AM.of (L := [some (.ref to), some (.ref 1), some (.int wt), none, none]) (by decide) (Nat.le_of_ble_eq_true rfl) rfl ?_
  refine ew_ic1 (t := 1) dX12_way_0 rfl ?_
  refine ew_istore_n (t := 2) (L' := [some (.ref to), some (.ref 1), some (.int wt), some (.int 1), none]) dX12_way_1 rfl (Nat.le_of_ble_eq_true rfl) rfl rfl ?_
  refine ew_ic0 (t := 3) dX12_way_2 rfl ?_
  refine ew_istore (t := 5) (L' := [some (.ref to), some (.ref 1), some (.int wt), some (.int 1), some (.int 0)]) dX12_way_3 (Nat.le_of_ble_eq_true rfl) rfl rfl ?_
  exact lx_wayK hto hH hH6 x1 x16 x2 x3 xt xa (H + 1) 0 (by omega)
