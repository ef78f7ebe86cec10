-- Obj fields dict_keys(['cls', 'fun', 'sname', 'refs', 'extra', 'ups'])
/-! the component: readRings -/
set_option maxRecDepth 100000
def rngW (T : Nat → Int32) (tp : Nat) (Z : RGS) : Bool := !(decide (Z.2.1 = 0) && decide (hrC T tp (hrN T tp Z.1) = 0))
def rngPl (T : Nat → Int32) (tp : Nat) (Z : RGS) : Nat := if Z.2.1 = 0 then hrN T tp Z.1 else Z.1
def RgQ (s : Nat → Int32) (T : Nat → Int32) (tp : Nat) (h : AH) (n : Nat) (Z : RGS) : Option Value → AH → Nat → Prop := fun r h' n' => n' = n ∧ ∃ (p : Int32) (f g : Nat → Int32), h' = hov h [(1, XO (upd s 4 (nI (rngPl T tp Z)))), (11, FO p), (13, IA 7 f), (14, IA 7 g)] ∧ ((rngW T tp Z = true ∧ r = some (.retAddr 12) ∧ p = nI (rngPl T tp Z)) ∨ (rngW T tp Z = false ∧ r = some (.int (nI Z.2.2.1)) ∧ f = frX Z.2.2.2.1 ∧ g = Z.2.2.2.2))
theorem RgQ.thr {s : Nat → Int32} {T : Nat → Int32} {tp : Nat} {h : AH} {n : Nat} {Z : RGS} {f g : Nat → Int32} {x : Nat} {s0 : Nat → Int32} (hw : ¬ Z.2.1 = 0) (hp : Z.1 = x) (hs : s0 = upd s 4 (nI x)) : RgQ s T tp h n Z (some (.retAddr (11 + 1))) (hov h [(1, XO s0), (11, FO (nI x)), (13, IA 7 f), (14, IA 7 g)]) n := by
  subst hp hs
  have e : rngPl T tp Z = Z.1 := if_neg hw
  refine ⟨rfl, nI Z.1, f, g, by rw [e], Or.inl ⟨?_, rfl, by rw [e]⟩⟩
  unfold rngW
  rw [decide_eq_false hw]; rfl
theorem frP_1 (p : Int32 × Nat × Int32) : (frP p).1 = if p.1 < 0 then -4 else p.1 := rfl
theorem frP_p (p : Int32 × Nat × Int32) : (frP p).2.1 = p.2.1 := rfl
theorem frP_w (p : Int32 × Nat × Int32) : (frP p).2.2 = p.2.2 := rfl
theorem frX_up2 {f : Nat → Int32} {j : Nat} {v : Int32} : upd (frX f) j (if v < 0 then -4 else v) = frX (upd f j v) := by
  rw [← frX_up]
  congr 1
  by_cases c : v < 0
  · rw [if_pos c, if_neg (Int32.not_le.mpr c)]
  · rw [if_neg c, if_pos (Int32.not_lt.mp c)]
theorem tk_1 {T : Nat → Int32} {tp a c : Nat} (hT : okT T tp) (htp : tp ≤ 60) (ha : a ≤ tp) (hc : c < 127) (hc0 : 0 < c) (h : hrC T tp (hrN T tp a) = nI c) : tkI T tp a (nI c) = 1 ∧ tkA T tp a (nI c) = hrN T tp a + 1 := by
  have e := (nb_c hT htp (hrN_le (T := T) ha).2 hc hc0).mpr h
  exact ⟨if_pos e, if_pos e⟩
theorem tk_0 {T : Nat → Int32} {tp a c : Nat} (hT : okT T tp) (htp : tp ≤ 60) (ha : a ≤ tp) (hc : c < 127) (hc0 : 0 < c) (h : ¬ hrC T tp (hrN T tp a) = nI c) : tkI T tp a (nI c) = 0 ∧ tkA T tp a (nI c) = hrN T tp a := by
  have e : ¬ nbC T tp (hrN T tp a) = nI c := fun q => h ((nb_c hT htp (hrN_le (T := T) ha).2 hc hc0).mp q)
  exact ⟨if_neg e, if_neg e⟩
set_option maxHeartbeats 2000000 in
theorem lx_rings {l : Launch} {G : GW} {h : AH} {n : Nat} {s : Nat → Int32} {T : Nat → Int32} {tp : Nat} {p0 : Int32} (x12 : h 12 = some (BA 60 T)) (h3 : s 3 = nI tp) (htp : tp ≤ 60) (hT : okT T tp) {Z : RGS} (kk : ∀ (o2 : Option Value), Z.2.1 = 0 → EW l G yX0_readRings cX0_readRings 4 (some .int) 3 0 0 (RgQ s T tp h n Z) 0 0 (hov h [(1, OB 0 (XOf (upd s 4 (nI Z.1)))), (11, OB 2 [.null, .null, .null, .null, .null, .int 0, .int p0]), (13, IA 7 (frX Z.2.2.2.1)), (14, IA 7 Z.2.2.2.2)]) n 109 [some (.ref 1), some (.int (nI Z.2.2.1)), o2, some (.int 0)] []) : ∀ (u k lo a : Nat) (ff gg : Nat → Int32), k + u = 5 → lo ≤ 6 → a ≤ tp → rgR T tp u k lo a ff gg = Z → EW l G yX0_readRings cX0_readRings 4 (some .int) 3 0 0 (RgQ s T tp h n Z) 0 0 (hov h [(1, OB 0 (XOf (upd s 4 (nI a)))), (11, OB 2 [.null, .null, .null, .null, .null, .int 0, .int p0]), (13, IA 7 (frX ff)), (14, IA 7 gg)]) n 11 [some (.ref 1), some (.int (nI k)), some (.int (nI lo)), some (.int 1)] [] := by
  intro u
  induction u with
  | zero =>
    intro k lo a ff gg hk hlo ha hZ
    obtain ⟨j, hj, ej⟩ := dgR_h (T := T) (tp := tp) (a := a) hlo
    have ejh : rgH T tp lo a = j := by unfold rgH rgN; rw [ej]; exact nI_clamp (by omega)
    have ejn : (rgN T tp lo a).1 = nI j := ej
    obtain ⟨NP, hNP⟩ : ∃ x, x = (rgN T tp lo a).2.1 := ⟨_, rfl⟩
    obtain ⟨NW, hNW⟩ : ∃ x, x = (rgN T tp lo a).2.2 := ⟨_, rfl⟩
    obtain ⟨A, hA⟩ : ∃ x, x = rgA T tp lo a := ⟨_, rfl⟩
    obtain ⟨QV, hQV⟩ : ∃ x, x = (rgQ T tp lo a).1 := ⟨_, rfl⟩
    obtain ⟨QP, hQP⟩ : ∃ x, x = (rgQ T tp lo a).2.1 := ⟨_, rfl⟩
    obtain ⟨QW, hQW⟩ : ∃ x, x = (rgQ T tp lo a).2.2 := ⟨_, rfl⟩
    obtain ⟨B, hB⟩ : ∃ x, x = rgB T tp lo a := ⟨_, rfl⟩
    obtain ⟨TT, hTT⟩ : ∃ x, x = rgT T tp lo a := ⟨_, rfl⟩
    obtain ⟨EE, hEE⟩ : ∃ x, x = rgE T tp lo a := ⟨_, rfl⟩
    have hS : ∀ E : RGS, rgS T tp lo a k ff gg E = if ¬ NW = 0 then (NP, 1, k + 1, upd ff j 0, upd gg j 0) else if ¬ hrC T tp A = 58 then (A, 1, k + 1, upd ff j 0, upd gg j 0) else if ¬ QW = 0 then (QP, QW, k + 1, upd ff j QV, upd gg j 0) else if 6 ≤ nI (k + 1) then (EE, 0, k + 1, upd ff j QV, upd gg j TT) else if ¬ hrC T tp (hrN T tp EE) = 59 then (hrN T tp EE, 0, k + 1, upd ff j QV, upd gg j TT) else E := by
      intro E
      unfold rgS
      rw [ejh, ← hNP, ← hNW, ← hA, ← hQV, ← hQP, ← hQW, ← hTT, ← hEE]
    have aA : A ≤ tp := by rw [hA]; exact rgA_le ha htp hlo
    have aN : NP ≤ tp := by rw [hNP]; exact rgN_le ha htp hlo
    have aQ : hrC T tp A = 58 → QP ≤ tp := by intro q; rw [hA] at q; rw [hQP]; exact rgQ_le ha htp hlo q
    have aE : hrC T tp A = 58 → EE ≤ tp := by intro q; rw [hA] at q; rw [hEE]; exact rgE_le ha htp hlo q
    have nA : hrN T tp NP = A := by rw [hNP, hA]; rfl
    have nQ : nmR T tp (A + 1) 0 = rgQ T tp lo a := by rw [hA]; rfl
    have nB : hrN T tp QP = B := by rw [hQP, hB]; rfl
    have nT : TT = if ¬ hrC T tp B = 43 then (if ¬ hrC T tp B = 45 then 0 else 1) else 2 := by rw [hTT, hB]; rfl
    have nE : EE = B + (if TT ≤ 0 then 0 else 1) := by rw [hTT, hB, hEE]; rfl
    have dZ : dgR T tp a 0 (nI lo + 1) 6 = rgN T tp lo a := rfl
    have hZ2 : rgR T tp 0 k lo a ff gg = rgS T tp lo a k ff gg (0, 0, 0, ff, gg) := rfl
    rw [hZ2, hS] at hZ
    refine ew_iload_n (t := 12) dX0_readRings_11 rfl rfl rfl ?_
    refine ew_if_eq (t := 109) (t2 := 15) dX0_readRings_12 rfl rfl (fun c_12 => ?_) (fun c_12 => ?_)
    · exact absurd c_12 (by decide)
    · refine ew_aload_n (t := 16) dX0_readRings_15 rfl rfl rfl ?_
      refine ew_iload_n (t := 17) dX0_readRings_16 rfl rfl rfl ?_
      refine ew_ic1 (t := 18) dX0_readRings_17 rfl ?_
      refine ew_iadd (t := 19) dX0_readRings_18 rfl ?_
      refine ew_bipush (t := 21) (v := 6) dX0_readRings_19 (by decide) rfl ?_
      refine ew_callVT (t := 24) (As := [_, _]) (ax_readDigit6 (h := (hov h [(13, IA 7 (frX ff)), (14, IA 7 gg)])) (s := (upd s 4 (nI a))) (p0 := p0) (a := a) x12 h3 rfl ha htp hT hlo) (fcX0).1 rfl (lw_V q364 q366 qs3 q51 q367) rfl naX0_readDigit dX0_readRings_21 rfl (Nat.le_of_ble_eq_true rfl) (Nat.le_of_ble_eq_true rfl) (Nat.le_refl _) (Nat.le_refl _) (Nat.le_of_ble_eq_true rfl) rfl (fun r h1 n1 q hnr => ?_) (fun x h1 n1 q => by
      obtain ⟨q1, q2, q3, q4⟩ := RdQ.no q
      replace q2 := q2.symm
      subst q2 q3 q4
      rw [dZ, ← hNW] at q1
      rw [dZ, ← hNP]
      rw [if_pos q1] at hZ
      refine et_leave (by decide +kernel) (by decide +kernel) (Nat.le_refl _) (Nat.le_refl _) ?_
      exact RgQ.thr (by rw [← hZ]; show ¬ (1 : Int32) = 0; decide) (by rw [← hZ]) (by rw [upd_upd]))
      obtain ⟨hw, q2, q3, q4⟩ := RdQ.ok q hnr
      replace q2 := q2.symm
      subst q2 q3 q4
      rw [dZ, ← hNW] at hw
      rw [dZ, ejn, ← hNP]
      rw [if_neg (not_not_intro hw)] at hZ
      refine EW.heap (h' := (hov h [(1, OB 0 (XOf (upd s 4 (nI NP)))), (11, OB 2 [.null, .null, .null, .null, .null, .int 0, .int p0]), (13, IA 7 (frX ff)), (14, IA 7 gg)])) (by rw [upd_upd]; rfl) ?_
      refine ew_istore_n (t := 25) (L' := [some (.ref 1), some (.int (nI k)), some (.int (nI j)), some (.int 1)]) dX0_readRings_24 rfl (Nat.le_of_ble_eq_true rfl) rfl rfl ?_
      refine ew_aload_n (t := 26) dX0_readRings_25 rfl rfl rfl ?_
      refine ew_bipush (t := 28) (v := 58) dX0_readRings_26 (by decide) rfl ?_
      refine ew_callV (t := 31) (As := [_]) (ax_takes (h := (hov h [(11, OB 2 [.null, .null, .null, .null, .null, .int 0, .int p0]), (13, IA 7 (frX ff)), (14, IA 7 gg)])) (s := (upd s 4 (nI NP))) (a := NP) x12 h3 rfl aN htp 58) (fcX0).1 rfl (lw_V q376 q378 qs6 q51 q379) rfl naX0_takes dX0_readRings_28 rfl (Nat.le_of_ble_eq_true rfl) (Nat.le_of_ble_eq_true rfl) (Nat.le_refl _) (Nat.le_refl _) (Nat.le_of_ble_eq_true rfl) rfl (qi ?_)
      refine EW.heap (h' := (hov h [(1, OB 0 (XOf (upd s 4 (nI (tkA T tp NP 58))))), (11, OB 2 [.null, .null, .null, .null, .null, .int 0, .int p0]), (13, IA 7 (frX ff)), (14, IA 7 gg)])) (by rw [upd_upd]; rfl) ?_
      have tz := tk_0 (T := T) (tp := tp) (a := NP) (c := 58) hT htp aN (by decide) (by decide)
      have ty := tk_1 (T := T) (tp := tp) (a := NP) (c := 58) hT htp aN (by decide) (by decide)
      rw [nA] at tz ty
      replace tz : ¬ hrC T tp A = 58 → tkI T tp NP 58 = 0 ∧ tkA T tp NP 58 = A := tz
      replace ty : hrC T tp A = 58 → tkI T tp NP 58 = 1 ∧ tkA T tp NP 58 = A + 1 := ty
      by_cases c_58 : hrC T tp A = 58
      · rw [(ty c_58).1, (ty c_58).2]
        refine ew_if_ne (t := 39) (t2 := 34) dX0_readRings_31 rfl rfl (fun c_31 => ?_) (fun c_31 => ?_)
        · rw [if_neg (not_not_intro c_58)] at hZ
          refine ew_aload_n (t := 40) dX0_readRings_39 rfl rfl rfl ?_
          refine ew_get (t := 43) (j := 5) (v := .ref 13) fcX0 rfl (Nat.le_of_ble_eq_true rfl) q260 rfl dX0_readRings_40 rfl ?_
          refine ew_iload_n (t := 44) dX0_readRings_43 rfl rfl rfl ?_
          refine ew_aload_n (t := 45) dX0_readRings_44 rfl rfl rfl ?_
          refine ew_callVT (t := 48) (As := []) (ax_readFar (h := (hov h [(13, IA 7 (frX ff)), (14, IA 7 gg)])) (s := (upd s 4 (nI (A + 1)))) (p0 := p0) (a := A + 1) x12 h3 rfl (hrC_lt c_58 (by decide) aA htp) htp hT) (fcX0).1 rfl (lw_V q380 q382 qs7 q51 q383) rfl naX0_readFar dX0_readRings_45 rfl (Nat.le_of_ble_eq_true rfl) (Nat.le_of_ble_eq_true rfl) (Nat.le_refl _) (Nat.le_refl _) (Nat.le_of_ble_eq_true rfl) rfl (fun r h1 n1 q hnr => ?_) (fun x h1 n1 q => by
      obtain ⟨q1, q2, q3, q4⟩ := RdQ.no q
      replace q2 := q2.symm
      subst q2 q3 q4
      rw [nQ, frP_w, ← hQW] at q1
      rw [nQ, frP_p, ← hQP]
      rw [if_pos q1] at hZ
      refine et_leave (by decide +kernel) (by decide +kernel) (Nat.le_refl _) (Nat.le_refl _) ?_
      exact RgQ.thr (by rw [← hZ]; exact q1) (by rw [← hZ]) (by rw [upd_upd]))
          obtain ⟨hw2, q2, q3, q4⟩ := RdQ.ok q hnr
          replace q2 := q2.symm
          subst q2 q3 q4
          rw [nQ, frP_w, ← hQW] at hw2
          rw [nQ, frP_1, frP_p, ← hQV, ← hQP]
          rw [if_neg (not_not_intro hw2)] at hZ
          refine EW.heap (h' := (hov h [(1, OB 0 (XOf (upd s 4 (nI QP)))), (11, OB 2 [.null, .null, .null, .null, .null, .int 0, .int p0]), (13, IA 7 (frX ff)), (14, IA 7 gg)])) (by rw [upd_upd]; rfl) ?_
          refine ew_iast (t := 49) (j := j) (N := 7) (h' := (hov h [(1, OB 0 (XOf (upd s 4 (nI QP)))), (11, OB 2 [.null, .null, .null, .null, .null, .int 0, .int p0]), (13, IA 7 (upd (frX ff) j (if QV < 0 then -4 else QV))), (14, IA 7 gg)])) rfl (vp_in_nI (by omega) (by omega)) (nI_clamp (by omega)) dX0_readRings_48 (hov_up rfl) rfl ?_
          refine EW.heap (h' := (hov h [(1, OB 0 (XOf (upd s 4 (nI QP)))), (11, OB 2 [.null, .null, .null, .null, .null, .int 0, .int p0]), (13, IA 7 (frX (upd ff j QV))), (14, IA 7 gg)])) (by rw [frX_up2]) ?_
          refine ew_aload_n (t := 50) dX0_readRings_49 rfl rfl rfl ?_
          refine ew_get (t := 53) (j := 6) (v := .ref 14) fcX0 rfl (Nat.le_of_ble_eq_true rfl) q261 rfl dX0_readRings_50 rfl ?_
          refine ew_iload_n (t := 54) dX0_readRings_53 rfl rfl rfl ?_
          refine ew_aload_n (t := 55) dX0_readRings_54 rfl rfl rfl ?_
          refine ew_bipush (t := 57) (v := 45) dX0_readRings_55 (by decide) rfl ?_
          refine ew_callV (t := 60) (As := [_]) (ax_takes (h := (hov h [(11, OB 2 [.null, .null, .null, .null, .null, .int 0, .int p0]), (13, IA 7 (frX (upd ff j QV))), (14, IA 7 gg)])) (s := (upd s 4 (nI QP))) (a := QP) x12 h3 rfl (aQ c_58) htp 45) (fcX0).1 rfl (lw_V q376 q378 qs6 q51 q379) rfl naX0_takes dX0_readRings_57 rfl (Nat.le_of_ble_eq_true rfl) (Nat.le_of_ble_eq_true rfl) (Nat.le_refl _) (Nat.le_refl _) (Nat.le_of_ble_eq_true rfl) rfl (qi ?_)
          refine EW.heap (h' := (hov h [(1, OB 0 (XOf (upd s 4 (nI (tkA T tp QP 45))))), (11, OB 2 [.null, .null, .null, .null, .null, .int 0, .int p0]), (13, IA 7 (frX (upd ff j QV))), (14, IA 7 gg)])) (by rw [upd_upd]; rfl) ?_
          have tz := tk_0 (T := T) (tp := tp) (a := QP) (c := 45) hT htp (aQ c_58) (by decide) (by decide)
          have ty := tk_1 (T := T) (tp := tp) (a := QP) (c := 45) hT htp (aQ c_58) (by decide) (by decide)
          rw [nB] at tz ty
          replace tz : ¬ hrC T tp B = 45 → tkI T tp QP 45 = 0 ∧ tkA T tp QP 45 = B := tz
          replace ty : hrC T tp B = 45 → tkI T tp QP 45 = 1 ∧ tkA T tp QP 45 = B + 1 := ty
          by_cases c_45 : hrC T tp B = 45
          · rw [(ty c_45).1, (ty c_45).2]
            refine ew_if_eq (t := 67) (t2 := 63) dX0_readRings_60 rfl rfl (fun c_60 => ?_) (fun c_60 => ?_)
            · exact absurd c_60 (by decide)
            · refine ew_ic1 (t := 64) dX0_readRings_63 rfl ?_
              refine ew_goto (t := 81) dX0_readRings_64 rfl ?_
              refine ew_iast (t := 82) (j := j) (N := 7) (h' := (hov h [(1, OB 0 (XOf (upd s 4 (nI (B + 1))))), (11, OB 2 [.null, .null, .null, .null, .null, .int 0, .int p0]), (13, IA 7 (frX (upd ff j QV))), (14, IA 7 (upd gg j 1))])) rfl (vp_in_nI (by omega) (by omega)) (nI_clamp (by omega)) dX0_readRings_81 (hov_up rfl) rfl ?_
              have eT : TT = 1 := by rw [nT, if_pos (by rw [c_45]; decide), if_neg (not_not_intro c_45)]
              have eE : EE = B + 1 := by rw [nE, eT, if_neg (by decide)]
              refine EW.heap (h' := (hov h [(1, OB 0 (XOf (upd s 4 (nI EE)))), (11, OB 2 [.null, .null, .null, .null, .null, .int 0, .int p0]), (13, IA 7 (frX (upd ff j QV))), (14, IA 7 (upd gg j TT))])) (by rw [eT, eE]) ?_
              refine ew_iinc (t := 85) (x := (nI k)) (v := ((nI k) + 1)) (L' := [some (.ref 1), some (.int ((nI k) + 1)), some (.int (nI j)), some (.int 1)]) dX0_readRings_82 rfl rfl (Nat.le_of_ble_eq_true rfl) rfl rfl ?_
              rw [nI_1 k]
              refine ew_iload_n (t := 86) dX0_readRings_85 rfl rfl rfl ?_
              refine ew_bipush (t := 88) (v := 6) dX0_readRings_86 (by decide) rfl ?_
              refine ew_icmp_ge (t := 104) (t2 := 91) dX0_readRings_88 rfl rfl (fun c_88 => ?_) (fun c_88 => ?_)
              · refine ew_ic0 (t := 105) dX0_readRings_104 rfl ?_
                refine ew_istore_n (t := 106) (L' := [some (.ref 1), some (.int (nI (k + 1))), some (.int (nI j)), some (.int 0)]) dX0_readRings_105 rfl (Nat.le_of_ble_eq_true rfl) rfl rfl ?_
                refine ew_goto (t := 11) dX0_readRings_106 rfl ?_
                refine ew_iload_n (t := 12) dX0_readRings_11 rfl rfl rfl ?_
                refine ew_if_eq (t := 109) (t2 := 15) dX0_readRings_12 rfl rfl (fun _ => ?_) (fun q => absurd rfl q)
                rw [if_pos c_88] at hZ
                rw [← hZ] at kk ⊢
                exact kk _ rfl
              · exact absurd (show (6 : Int32) ≤ nI (k + 1) by rw [show k = 5 by omega]; decide) c_88
          · rw [(tz c_45).1, (tz c_45).2]
            refine ew_if_eq (t := 67) (t2 := 63) dX0_readRings_60 rfl rfl (fun c_60 => ?_) (fun c_60 => ?_)
            · have aB : B ≤ tp := by rw [← nB]; exact (hrN_le (aQ c_58)).2
              have iB : hrN T tp B = B := by rw [← nB]; exact hrN_idem (aQ c_58)
              refine ew_aload_n (t := 68) dX0_readRings_67 rfl rfl rfl ?_
              refine ew_bipush (t := 70) (v := 43) dX0_readRings_68 (by decide) rfl ?_
              refine ew_callV (t := 73) (As := [_]) (ax_takes (h := (hov h [(11, OB 2 [.null, .null, .null, .null, .null, .int 0, .int p0]), (13, IA 7 (frX (upd ff j QV))), (14, IA 7 gg)])) (s := (upd s 4 (nI B))) (a := B) x12 h3 rfl aB htp 43) (fcX0).1 rfl (lw_V q376 q378 qs6 q51 q379) rfl naX0_takes dX0_readRings_70 rfl (Nat.le_of_ble_eq_true rfl) (Nat.le_of_ble_eq_true rfl) (Nat.le_refl _) (Nat.le_refl _) (Nat.le_of_ble_eq_true rfl) rfl (qi ?_)
              refine EW.heap (h' := (hov h [(1, OB 0 (XOf (upd s 4 (nI (tkA T tp B 43))))), (11, OB 2 [.null, .null, .null, .null, .null, .int 0, .int p0]), (13, IA 7 (frX (upd ff j QV))), (14, IA 7 gg)])) (by rw [upd_upd]; rfl) ?_
              have tz := tk_0 (T := T) (tp := tp) (a := B) (c := 43) hT htp aB (by decide) (by decide)
              have ty := tk_1 (T := T) (tp := tp) (a := B) (c := 43) hT htp aB (by decide) (by decide)
              rw [iB] at tz ty
              replace tz : ¬ hrC T tp B = 43 → tkI T tp B 43 = 0 ∧ tkA T tp B 43 = B := tz
              replace ty : hrC T tp B = 43 → tkI T tp B 43 = 1 ∧ tkA T tp B 43 = B + 1 := ty
              by_cases c_43 : hrC T tp B = 43
              · rw [(ty c_43).1, (ty c_43).2]
                refine ew_if_eq (t := 80) (t2 := 76) dX0_readRings_73 rfl rfl (fun c_73 => ?_) (fun c_73 => ?_)
                · exact absurd c_73 (by decide)
                · refine ew_ic2 (t := 77) dX0_readRings_76 rfl ?_
                  refine ew_goto (t := 81) dX0_readRings_77 rfl ?_
                  refine ew_iast (t := 82) (j := j) (N := 7) (h' := (hov h [(1, OB 0 (XOf (upd s 4 (nI (B + 1))))), (11, OB 2 [.null, .null, .null, .null, .null, .int 0, .int p0]), (13, IA 7 (frX (upd ff j QV))), (14, IA 7 (upd gg j 2))])) rfl (vp_in_nI (by omega) (by omega)) (nI_clamp (by omega)) dX0_readRings_81 (hov_up rfl) rfl ?_
                  have eT : TT = 2 := by rw [nT, if_neg (not_not_intro c_43)]
                  have eE : EE = B + 1 := by rw [nE, eT, if_neg (by decide)]
                  refine EW.heap (h' := (hov h [(1, OB 0 (XOf (upd s 4 (nI EE)))), (11, OB 2 [.null, .null, .null, .null, .null, .int 0, .int p0]), (13, IA 7 (frX (upd ff j QV))), (14, IA 7 (upd gg j TT))])) (by rw [eT, eE]) ?_
                  refine ew_iinc (t := 85) (x := (nI k)) (v := ((nI k) + 1)) (L' := [some (.ref 1), some (.int ((nI k) + 1)), some (.int (nI j)), some (.int 1)]) dX0_readRings_82 rfl rfl (Nat.le_of_ble_eq_true rfl) rfl rfl ?_
                  rw [nI_1 k]
                  refine ew_iload_n (t := 86) dX0_readRings_85 rfl rfl rfl ?_
                  refine ew_bipush (t := 88) (v := 6) dX0_readRings_86 (by decide) rfl ?_
                  refine ew_icmp_ge (t := 104) (t2 := 91) dX0_readRings_88 rfl rfl (fun c_88 => ?_) (fun c_88 => ?_)
                  · refine ew_ic0 (t := 105) dX0_readRings_104 rfl ?_
                    refine ew_istore_n (t := 106) (L' := [some (.ref 1), some (.int (nI (k + 1))), some (.int (nI j)), some (.int 0)]) dX0_readRings_105 rfl (Nat.le_of_ble_eq_true rfl) rfl rfl ?_
                    refine ew_goto (t := 11) dX0_readRings_106 rfl ?_
                    refine ew_iload_n (t := 12) dX0_readRings_11 rfl rfl rfl ?_
                    refine ew_if_eq (t := 109) (t2 := 15) dX0_readRings_12 rfl rfl (fun _ => ?_) (fun q => absurd rfl q)
                    rw [if_pos c_88] at hZ
                    rw [← hZ] at kk ⊢
                    exact kk _ rfl
                  · exact absurd (show (6 : Int32) ≤ nI (k + 1) by rw [show k = 5 by omega]; decide) c_88
              · rw [(tz c_43).1, (tz c_43).2]
                refine ew_if_eq (t := 80) (t2 := 76) dX0_readRings_73 rfl rfl (fun c_73 => ?_) (fun c_73 => ?_)
                · refine ew_ic0 (t := 81) dX0_readRings_80 rfl ?_
                  refine ew_iast (t := 82) (j := j) (N := 7) (h' := (hov h [(1, OB 0 (XOf (upd s 4 (nI B)))), (11, OB 2 [.null, .null, .null, .null, .null, .int 0, .int p0]), (13, IA 7 (frX (upd ff j QV))), (14, IA 7 (upd gg j 0))])) rfl (vp_in_nI (by omega) (by omega)) (nI_clamp (by omega)) dX0_readRings_81 (hov_up rfl) rfl ?_
                  have eT : TT = 0 := by rw [nT, if_pos c_43, if_pos c_45]
                  have eE : EE = B := by rw [nE, eT, if_pos (by decide), Nat.add_zero]
                  refine EW.heap (h' := (hov h [(1, OB 0 (XOf (upd s 4 (nI EE)))), (11, OB 2 [.null, .null, .null, .null, .null, .int 0, .int p0]), (13, IA 7 (frX (upd ff j QV))), (14, IA 7 (upd gg j TT))])) (by rw [eT, eE]) ?_
                  refine ew_iinc (t := 85) (x := (nI k)) (v := ((nI k) + 1)) (L' := [some (.ref 1), some (.int ((nI k) + 1)), some (.int (nI j)), some (.int 1)]) dX0_readRings_82 rfl rfl (Nat.le_of_ble_eq_true rfl) rfl rfl ?_
                  rw [nI_1 k]
                  refine ew_iload_n (t := 86) dX0_readRings_85 rfl rfl rfl ?_
                  refine ew_bipush (t := 88) (v := 6) dX0_readRings_86 (by decide) rfl ?_
                  refine ew_icmp_ge (t := 104) (t2 := 91) dX0_readRings_88 rfl rfl (fun c_88 => ?_) (fun c_88 => ?_)
                  · refine ew_ic0 (t := 105) dX0_readRings_104 rfl ?_
                    refine ew_istore_n (t := 106) (L' := [some (.ref 1), some (.int (nI (k + 1))), some (.int (nI j)), some (.int 0)]) dX0_readRings_105 rfl (Nat.le_of_ble_eq_true rfl) rfl rfl ?_
                    refine ew_goto (t := 11) dX0_readRings_106 rfl ?_
                    refine ew_iload_n (t := 12) dX0_readRings_11 rfl rfl rfl ?_
                    refine ew_if_eq (t := 109) (t2 := 15) dX0_readRings_12 rfl rfl (fun _ => ?_) (fun q => absurd rfl q)
                    rw [if_pos c_88] at hZ
                    rw [← hZ] at kk ⊢
                    exact kk _ rfl
                  · exact absurd (show (6 : Int32) ≤ nI (k + 1) by rw [show k = 5 by omega]; decide) c_88
                · exact absurd c_73 (by decide)
            · exact absurd c_60 (by decide)
        · exact absurd c_31 (by decide)
      · rw [(tz c_58).1, (tz c_58).2]
        refine ew_if_ne (t := 39) (t2 := 34) dX0_readRings_31 rfl rfl (fun c_31 => ?_) (fun c_31 => ?_)
        · exact absurd c_31 (by decide)
        · refine ew_aload_n (t := 35) dX0_readRings_34 rfl rfl rfl ?_
          refine ew_callV (t := 38) (As := []) (ax_wrong (h := (hov h [(13, IA 7 (frX ff)), (14, IA 7 gg)])) (s := (upd s 4 (nI A))) (p0 := p0)) (fcX0).1 rfl (lw_V q372 q374 qs5 q51 q375) rfl naX0_wrong dX0_readRings_35 rfl (Nat.le_of_ble_eq_true rfl) (Nat.le_of_ble_eq_true rfl) (Nat.le_refl _) (Nat.le_refl _) (Nat.le_of_ble_eq_true rfl) rfl (qr ?_)
          refine ew_athrow dX0_readRings_38 ?_
          refine et_leave (by decide +kernel) (by decide +kernel) (Nat.le_refl _) (Nat.le_refl _) ?_
          rw [if_pos c_58] at hZ
          exact RgQ.thr (by rw [← hZ]; show ¬ (1 : Int32) = 0; decide) (by rw [← hZ]) rfl
  | succ u ih =>
    intro k lo a ff gg hk hlo ha hZ
    obtain ⟨j, hj, ej⟩ := dgR_h (T := T) (tp := tp) (a := a) hlo
    have ejh : rgH T tp lo a = j := by unfold rgH rgN; rw [ej]; exact nI_clamp (by omega)
    have ejn : (rgN T tp lo a).1 = nI j := ej
    obtain ⟨NP, hNP⟩ : ∃ x, x = (rgN T tp lo a).2.1 := ⟨_, rfl⟩
    obtain ⟨NW, hNW⟩ : ∃ x, x = (rgN T tp lo a).2.2 := ⟨_, rfl⟩
    obtain ⟨A, hA⟩ : ∃ x, x = rgA T tp lo a := ⟨_, rfl⟩
    obtain ⟨QV, hQV⟩ : ∃ x, x = (rgQ T tp lo a).1 := ⟨_, rfl⟩
    obtain ⟨QP, hQP⟩ : ∃ x, x = (rgQ T tp lo a).2.1 := ⟨_, rfl⟩
    obtain ⟨QW, hQW⟩ : ∃ x, x = (rgQ T tp lo a).2.2 := ⟨_, rfl⟩
    obtain ⟨B, hB⟩ : ∃ x, x = rgB T tp lo a := ⟨_, rfl⟩
    obtain ⟨TT, hTT⟩ : ∃ x, x = rgT T tp lo a := ⟨_, rfl⟩
    obtain ⟨EE, hEE⟩ : ∃ x, x = rgE T tp lo a := ⟨_, rfl⟩
    have hS : ∀ E : RGS, rgS T tp lo a k ff gg E = if ¬ NW = 0 then (NP, 1, k + 1, upd ff j 0, upd gg j 0) else if ¬ hrC T tp A = 58 then (A, 1, k + 1, upd ff j 0, upd gg j 0) else if ¬ QW = 0 then (QP, QW, k + 1, upd ff j QV, upd gg j 0) else if 6 ≤ nI (k + 1) then (EE, 0, k + 1, upd ff j QV, upd gg j TT) else if ¬ hrC T tp (hrN T tp EE) = 59 then (hrN T tp EE, 0, k + 1, upd ff j QV, upd gg j TT) else E := by
      intro E
      unfold rgS
      rw [ejh, ← hNP, ← hNW, ← hA, ← hQV, ← hQP, ← hQW, ← hTT, ← hEE]
    have aA : A ≤ tp := by rw [hA]; exact rgA_le ha htp hlo
    have aN : NP ≤ tp := by rw [hNP]; exact rgN_le ha htp hlo
    have aQ : hrC T tp A = 58 → QP ≤ tp := by intro q; rw [hA] at q; rw [hQP]; exact rgQ_le ha htp hlo q
    have aE : hrC T tp A = 58 → EE ≤ tp := by intro q; rw [hA] at q; rw [hEE]; exact rgE_le ha htp hlo q
    have nA : hrN T tp NP = A := by rw [hNP, hA]; rfl
    have nQ : nmR T tp (A + 1) 0 = rgQ T tp lo a := by rw [hA]; rfl
    have nB : hrN T tp QP = B := by rw [hQP, hB]; rfl
    have nT : TT = if ¬ hrC T tp B = 43 then (if ¬ hrC T tp B = 45 then 0 else 1) else 2 := by rw [hTT, hB]; rfl
    have nE : EE = B + (if TT ≤ 0 then 0 else 1) := by rw [hTT, hB, hEE]; rfl
    have dZ : dgR T tp a 0 (nI lo + 1) 6 = rgN T tp lo a := rfl
    have hZ2 : rgR T tp (u + 1) k lo a ff gg = rgS T tp lo a k ff gg (rgR T tp u (k + 1) (rgH T tp lo a) (hrN T tp (rgE T tp lo a) + 1) (upd ff (rgH T tp lo a) (rgQ T tp lo a).1) (upd gg (rgH T tp lo a) (rgT T tp lo a))) := rfl
    rw [hZ2, hS] at hZ
    refine ew_iload_n (t := 12) dX0_readRings_11 rfl rfl rfl ?_
    refine ew_if_eq (t := 109) (t2 := 15) dX0_readRings_12 rfl rfl (fun c_12 => ?_) (fun c_12 => ?_)
    · exact absurd c_12 (by decide)
    · refine ew_aload_n (t := 16) dX0_readRings_15 rfl rfl rfl ?_
      refine ew_iload_n (t := 17) dX0_readRings_16 rfl rfl rfl ?_
      refine ew_ic1 (t := 18) dX0_readRings_17 rfl ?_
      refine ew_iadd (t := 19) dX0_readRings_18 rfl ?_
      refine ew_bipush (t := 21) (v := 6) dX0_readRings_19 (by decide) rfl ?_
      refine ew_callVT (t := 24) (As := [_, _]) (ax_readDigit6 (h := (hov h [(13, IA 7 (frX ff)), (14, IA 7 gg)])) (s := (upd s 4 (nI a))) (p0 := p0) (a := a) x12 h3 rfl ha htp hT hlo) (fcX0).1 rfl (lw_V q364 q366 qs3 q51 q367) rfl naX0_readDigit dX0_readRings_21 rfl (Nat.le_of_ble_eq_true rfl) (Nat.le_of_ble_eq_true rfl) (Nat.le_refl _) (Nat.le_refl _) (Nat.le_of_ble_eq_true rfl) rfl (fun r h1 n1 q hnr => ?_) (fun x h1 n1 q => by
      obtain ⟨q1, q2, q3, q4⟩ := RdQ.no q
      replace q2 := q2.symm
      subst q2 q3 q4
      rw [dZ, ← hNW] at q1
      rw [dZ, ← hNP]
      rw [if_pos q1] at hZ
      refine et_leave (by decide +kernel) (by decide +kernel) (Nat.le_refl _) (Nat.le_refl _) ?_
      exact RgQ.thr (by rw [← hZ]; show ¬ (1 : Int32) = 0; decide) (by rw [← hZ]) (by rw [upd_upd]))
      obtain ⟨hw, q2, q3, q4⟩ := RdQ.ok q hnr
      replace q2 := q2.symm
      subst q2 q3 q4
      rw [dZ, ← hNW] at hw
      rw [dZ, ejn, ← hNP]
      rw [if_neg (not_not_intro hw)] at hZ
      refine EW.heap (h' := (hov h [(1, OB 0 (XOf (upd s 4 (nI NP)))), (11, OB 2 [.null, .null, .null, .null, .null, .int 0, .int p0]), (13, IA 7 (frX ff)), (14, IA 7 gg)])) (by rw [upd_upd]; rfl) ?_
      refine ew_istore_n (t := 25) (L' := [some (.ref 1), some (.int (nI k)), some (.int (nI j)), some (.int 1)]) dX0_readRings_24 rfl (Nat.le_of_ble_eq_true rfl) rfl rfl ?_
      refine ew_aload_n (t := 26) dX0_readRings_25 rfl rfl rfl ?_
      refine ew_bipush (t := 28) (v := 58) dX0_readRings_26 (by decide) rfl ?_
      refine ew_callV (t := 31) (As := [_]) (ax_takes (h := (hov h [(11, OB 2 [.null, .null, .null, .null, .null, .int 0, .int p0]), (13, IA 7 (frX ff)), (14, IA 7 gg)])) (s := (upd s 4 (nI NP))) (a := NP) x12 h3 rfl aN htp 58) (fcX0).1 rfl (lw_V q376 q378 qs6 q51 q379) rfl naX0_takes dX0_readRings_28 rfl (Nat.le_of_ble_eq_true rfl) (Nat.le_of_ble_eq_true rfl) (Nat.le_refl _) (Nat.le_refl _) (Nat.le_of_ble_eq_true rfl) rfl (qi ?_)
      refine EW.heap (h' := (hov h [(1, OB 0 (XOf (upd s 4 (nI (tkA T tp NP 58))))), (11, OB 2 [.null, .null, .null, .null, .null, .int 0, .int p0]), (13, IA 7 (frX ff)), (14, IA 7 gg)])) (by rw [upd_upd]; rfl) ?_
      have tz := tk_0 (T := T) (tp := tp) (a := NP) (c := 58) hT htp aN (by decide) (by decide)
      have ty := tk_1 (T := T) (tp := tp) (a := NP) (c := 58) hT htp aN (by decide) (by decide)
      rw [nA] at tz ty
      replace tz : ¬ hrC T tp A = 58 → tkI T tp NP 58 = 0 ∧ tkA T tp NP 58 = A := tz
      replace ty : hrC T tp A = 58 → tkI T tp NP 58 = 1 ∧ tkA T tp NP 58 = A + 1 := ty
      by_cases c_58 : hrC T tp A = 58
      · rw [(ty c_58).1, (ty c_58).2]
        refine ew_if_ne (t := 39) (t2 := 34) dX0_readRings_31 rfl rfl (fun c_31 => ?_) (fun c_31 => ?_)
        · rw [if_neg (not_not_intro c_58)] at hZ
          refine ew_aload_n (t := 40) dX0_readRings_39 rfl rfl rfl ?_
          refine ew_get (t := 43) (j := 5) (v := .ref 13) fcX0 rfl (Nat.le_of_ble_eq_true rfl) q260 rfl dX0_readRings_40 rfl ?_
          refine ew_iload_n (t := 44) dX0_readRings_43 rfl rfl rfl ?_
          refine ew_aload_n (t := 45) dX0_readRings_44 rfl rfl rfl ?_
          refine ew_callVT (t := 48) (As := []) (ax_readFar (h := (hov h [(13, IA 7 (frX ff)), (14, IA 7 gg)])) (s := (upd s 4 (nI (A + 1)))) (p0 := p0) (a := A + 1) x12 h3 rfl (hrC_lt c_58 (by decide) aA htp) htp hT) (fcX0).1 rfl (lw_V q380 q382 qs7 q51 q383) rfl naX0_readFar dX0_readRings_45 rfl (Nat.le_of_ble_eq_true rfl) (Nat.le_of_ble_eq_true rfl) (Nat.le_refl _) (Nat.le_refl _) (Nat.le_of_ble_eq_true rfl) rfl (fun r h1 n1 q hnr => ?_) (fun x h1 n1 q => by
      obtain ⟨q1, q2, q3, q4⟩ := RdQ.no q
      replace q2 := q2.symm
      subst q2 q3 q4
      rw [nQ, frP_w, ← hQW] at q1
      rw [nQ, frP_p, ← hQP]
      rw [if_pos q1] at hZ
      refine et_leave (by decide +kernel) (by decide +kernel) (Nat.le_refl _) (Nat.le_refl _) ?_
      exact RgQ.thr (by rw [← hZ]; exact q1) (by rw [← hZ]) (by rw [upd_upd]))
          obtain ⟨hw2, q2, q3, q4⟩ := RdQ.ok q hnr
          replace q2 := q2.symm
          subst q2 q3 q4
          rw [nQ, frP_w, ← hQW] at hw2
          rw [nQ, frP_1, frP_p, ← hQV, ← hQP]
          rw [if_neg (not_not_intro hw2)] at hZ
          refine EW.heap (h' := (hov h [(1, OB 0 (XOf (upd s 4 (nI QP)))), (11, OB 2 [.null, .null, .null, .null, .null, .int 0, .int p0]), (13, IA 7 (frX ff)), (14, IA 7 gg)])) (by rw [upd_upd]; rfl) ?_
          refine ew_iast (t := 49) (j := j) (N := 7) (h' := (hov h [(1, OB 0 (XOf (upd s 4 (nI QP)))), (11, OB 2 [.null, .null, .null, .null, .null, .int 0, .int p0]), (13, IA 7 (upd (frX ff) j (if QV < 0 then -4 else QV))), (14, IA 7 gg)])) rfl (vp_in_nI (by omega) (by omega)) (nI_clamp (by omega)) dX0_readRings_48 (hov_up rfl) rfl ?_
          refine EW.heap (h' := (hov h [(1, OB 0 (XOf (upd s 4 (nI QP)))), (11, OB 2 [.null, .null, .null, .null, .null, .int 0, .int p0]), (13, IA 7 (frX (upd ff j QV))), (14, IA 7 gg)])) (by rw [frX_up2]) ?_
          refine ew_aload_n (t := 50) dX0_readRings_49 rfl rfl rfl ?_
          refine ew_get (t := 53) (j := 6) (v := .ref 14) fcX0 rfl (Nat.le_of_ble_eq_true rfl) q261 rfl dX0_readRings_50 rfl ?_
          refine ew_iload_n (t := 54) dX0_readRings_53 rfl rfl rfl ?_
          refine ew_aload_n (t := 55) dX0_readRings_54 rfl rfl rfl ?_
          refine ew_bipush (t := 57) (v := 45) dX0_readRings_55 (by decide) rfl ?_
          refine ew_callV (t := 60) (As := [_]) (ax_takes (h := (hov h [(11, OB 2 [.null, .null, .null, .null, .null, .int 0, .int p0]), (13, IA 7 (frX (upd ff j QV))), (14, IA 7 gg)])) (s := (upd s 4 (nI QP))) (a := QP) x12 h3 rfl (aQ c_58) htp 45) (fcX0).1 rfl (lw_V q376 q378 qs6 q51 q379) rfl naX0_takes dX0_readRings_57 rfl (Nat.le_of_ble_eq_true rfl) (Nat.le_of_ble_eq_true rfl) (Nat.le_refl _) (Nat.le_refl _) (Nat.le_of_ble_eq_true rfl) rfl (qi ?_)
          refine EW.heap (h' := (hov h [(1, OB 0 (XOf (upd s 4 (nI (tkA T tp QP 45))))), (11, OB 2 [.null, .null, .null, .null, .null, .int 0, .int p0]), (13, IA 7 (frX (upd ff j QV))), (14, IA 7 gg)])) (by rw [upd_upd]; rfl) ?_
          have tz := tk_0 (T := T) (tp := tp) (a := QP) (c := 45) hT htp (aQ c_58) (by decide) (by decide)
          have ty := tk_1 (T := T) (tp := tp) (a := QP) (c := 45) hT htp (aQ c_58) (by decide) (by decide)
          rw [nB] at tz ty
          replace tz : ¬ hrC T tp B = 45 → tkI T tp QP 45 = 0 ∧ tkA T tp QP 45 = B := tz
          replace ty : hrC T tp B = 45 → tkI T tp QP 45 = 1 ∧ tkA T tp QP 45 = B + 1 := ty
          by_cases c_45 : hrC T tp B = 45
          · rw [(ty c_45).1, (ty c_45).2]
            refine ew_if_eq (t := 67) (t2 := 63) dX0_readRings_60 rfl rfl (fun c_60 => ?_) (fun c_60 => ?_)
            · exact absurd c_60 (by decide)
            · refine ew_ic1 (t := 64) dX0_readRings_63 rfl ?_
              refine ew_goto (t := 81) dX0_readRings_64 rfl ?_
              refine ew_iast (t := 82) (j := j) (N := 7) (h' := (hov h [(1, OB 0 (XOf (upd s 4 (nI (B + 1))))), (11, OB 2 [.null, .null, .null, .null, .null, .int 0, .int p0]), (13, IA 7 (frX (upd ff j QV))), (14, IA 7 (upd gg j 1))])) rfl (vp_in_nI (by omega) (by omega)) (nI_clamp (by omega)) dX0_readRings_81 (hov_up rfl) rfl ?_
              have eT : TT = 1 := by rw [nT, if_pos (by rw [c_45]; decide), if_neg (not_not_intro c_45)]
              have eE : EE = B + 1 := by rw [nE, eT, if_neg (by decide)]
              refine EW.heap (h' := (hov h [(1, OB 0 (XOf (upd s 4 (nI EE)))), (11, OB 2 [.null, .null, .null, .null, .null, .int 0, .int p0]), (13, IA 7 (frX (upd ff j QV))), (14, IA 7 (upd gg j TT))])) (by rw [eT, eE]) ?_
              refine ew_iinc (t := 85) (x := (nI k)) (v := ((nI k) + 1)) (L' := [some (.ref 1), some (.int ((nI k) + 1)), some (.int (nI j)), some (.int 1)]) dX0_readRings_82 rfl rfl (Nat.le_of_ble_eq_true rfl) rfl rfl ?_
              rw [nI_1 k]
              refine ew_iload_n (t := 86) dX0_readRings_85 rfl rfl rfl ?_
              refine ew_bipush (t := 88) (v := 6) dX0_readRings_86 (by decide) rfl ?_
              refine ew_icmp_ge (t := 104) (t2 := 91) dX0_readRings_88 rfl rfl (fun c_88 => ?_) (fun c_88 => ?_)
              · refine ew_ic0 (t := 105) dX0_readRings_104 rfl ?_
                refine ew_istore_n (t := 106) (L' := [some (.ref 1), some (.int (nI (k + 1))), some (.int (nI j)), some (.int 0)]) dX0_readRings_105 rfl (Nat.le_of_ble_eq_true rfl) rfl rfl ?_
                refine ew_goto (t := 11) dX0_readRings_106 rfl ?_
                refine ew_iload_n (t := 12) dX0_readRings_11 rfl rfl rfl ?_
                refine ew_if_eq (t := 109) (t2 := 15) dX0_readRings_12 rfl rfl (fun _ => ?_) (fun q => absurd rfl q)
                rw [if_pos c_88] at hZ
                rw [← hZ] at kk ⊢
                exact kk _ rfl
              · refine ew_aload_n (t := 92) dX0_readRings_91 rfl rfl rfl ?_
                refine ew_bipush (t := 94) (v := 59) dX0_readRings_92 (by decide) rfl ?_
                refine ew_callV (t := 97) (As := [_]) (ax_takes (h := (hov h [(11, OB 2 [.null, .null, .null, .null, .null, .int 0, .int p0]), (13, IA 7 (frX (upd ff j QV))), (14, IA 7 (upd gg j TT))])) (s := (upd s 4 (nI EE))) (a := EE) x12 h3 rfl (aE c_58) htp 59) (fcX0).1 rfl (lw_V q376 q378 qs6 q51 q379) rfl naX0_takes dX0_readRings_94 rfl (Nat.le_of_ble_eq_true rfl) (Nat.le_of_ble_eq_true rfl) (Nat.le_refl _) (Nat.le_refl _) (Nat.le_of_ble_eq_true rfl) rfl (qi ?_)
                refine EW.heap (h' := (hov h [(1, OB 0 (XOf (upd s 4 (nI (tkA T tp EE 59))))), (11, OB 2 [.null, .null, .null, .null, .null, .int 0, .int p0]), (13, IA 7 (frX (upd ff j QV))), (14, IA 7 (upd gg j TT))])) (by rw [upd_upd]; rfl) ?_
                have tz := tk_0 (T := T) (tp := tp) (a := EE) (c := 59) hT htp (aE c_58) (by decide) (by decide)
                have ty := tk_1 (T := T) (tp := tp) (a := EE) (c := 59) hT htp (aE c_58) (by decide) (by decide)
                replace tz : ¬ hrC T tp (hrN T tp EE) = 59 → tkI T tp EE 59 = 0 ∧ tkA T tp EE 59 = (hrN T tp EE) := tz
                replace ty : hrC T tp (hrN T tp EE) = 59 → tkI T tp EE 59 = 1 ∧ tkA T tp EE 59 = (hrN T tp EE) + 1 := ty
                by_cases c_59 : hrC T tp (hrN T tp EE) = 59
                · rw [(ty c_59).1, (ty c_59).2]
                  refine ew_if_eq (t := 104) (t2 := 100) dX0_readRings_97 rfl rfl (fun c_97 => ?_) (fun c_97 => ?_)
                  · exact absurd c_97 (by decide)
                  · refine ew_ic1 (t := 101) dX0_readRings_100 rfl ?_
                    refine ew_goto (t := 105) dX0_readRings_101 rfl ?_
                    refine ew_istore_n (t := 106) (L' := [some (.ref 1), some (.int (nI (k + 1))), some (.int (nI j)), some (.int 1)]) dX0_readRings_105 rfl (Nat.le_of_ble_eq_true rfl) rfl rfl ?_
                    refine ew_goto (t := 11) dX0_readRings_106 rfl ?_
                    rw [if_neg c_88, if_neg (not_not_intro c_59), ejh, ← hEE, ← hQV, ← hTT] at hZ
                    exact ih (k + 1) j (hrN T tp EE + 1) _ _ (by omega) hj (hrC_lt c_59 (by decide) (hrN_le (aE c_58)).2 htp) hZ
                · rw [(tz c_59).1, (tz c_59).2]
                  refine ew_if_eq (t := 104) (t2 := 100) dX0_readRings_97 rfl rfl (fun c_97 => ?_) (fun c_97 => ?_)
                  · refine ew_ic0 (t := 105) dX0_readRings_104 rfl ?_
                    refine ew_istore_n (t := 106) (L' := [some (.ref 1), some (.int (nI (k + 1))), some (.int (nI j)), some (.int 0)]) dX0_readRings_105 rfl (Nat.le_of_ble_eq_true rfl) rfl rfl ?_
                    refine ew_goto (t := 11) dX0_readRings_106 rfl ?_
                    refine ew_iload_n (t := 12) dX0_readRings_11 rfl rfl rfl ?_
                    refine ew_if_eq (t := 109) (t2 := 15) dX0_readRings_12 rfl rfl (fun _ => ?_) (fun q => absurd rfl q)
                    rw [if_neg c_88, if_pos c_59] at hZ
                    rw [← hZ] at kk ⊢
                    exact kk _ rfl
                  · exact absurd c_97 (by decide)
          · rw [(tz c_45).1, (tz c_45).2]
            refine ew_if_eq (t := 67) (t2 := 63) dX0_readRings_60 rfl rfl (fun c_60 => ?_) (fun c_60 => ?_)
            · have aB : B ≤ tp := by rw [← nB]; exact (hrN_le (aQ c_58)).2
              have iB : hrN T tp B = B := by rw [← nB]; exact hrN_idem (aQ c_58)
              refine ew_aload_n (t := 68) dX0_readRings_67 rfl rfl rfl ?_
              refine ew_bipush (t := 70) (v := 43) dX0_readRings_68 (by decide) rfl ?_
              refine ew_callV (t := 73) (As := [_]) (ax_takes (h := (hov h [(11, OB 2 [.null, .null, .null, .null, .null, .int 0, .int p0]), (13, IA 7 (frX (upd ff j QV))), (14, IA 7 gg)])) (s := (upd s 4 (nI B))) (a := B) x12 h3 rfl aB htp 43) (fcX0).1 rfl (lw_V q376 q378 qs6 q51 q379) rfl naX0_takes dX0_readRings_70 rfl (Nat.le_of_ble_eq_true rfl) (Nat.le_of_ble_eq_true rfl) (Nat.le_refl _) (Nat.le_refl _) (Nat.le_of_ble_eq_true rfl) rfl (qi ?_)
              refine EW.heap (h' := (hov h [(1, OB 0 (XOf (upd s 4 (nI (tkA T tp B 43))))), (11, OB 2 [.null, .null, .null, .null, .null, .int 0, .int p0]), (13, IA 7 (frX (upd ff j QV))), (14, IA 7 gg)])) (by rw [upd_upd]; rfl) ?_
              have tz := tk_0 (T := T) (tp := tp) (a := B) (c := 43) hT htp aB (by decide) (by decide)
              have ty := tk_1 (T := T) (tp := tp) (a := B) (c := 43) hT htp aB (by decide) (by decide)
              rw [iB] at tz ty
              replace tz : ¬ hrC T tp B = 43 → tkI T tp B 43 = 0 ∧ tkA T tp B 43 = B := tz
              replace ty : hrC T tp B = 43 → tkI T tp B 43 = 1 ∧ tkA T tp B 43 = B + 1 := ty
              by_cases c_43 : hrC T tp B = 43
              · rw [(ty c_43).1, (ty c_43).2]
                refine ew_if_eq (t := 80) (t2 := 76) dX0_readRings_73 rfl rfl (fun c_73 => ?_) (fun c_73 => ?_)
                · exact absurd c_73 (by decide)
                · refine ew_ic2 (t := 77) dX0_readRings_76 rfl ?_
                  refine ew_goto (t := 81) dX0_readRings_77 rfl ?_
                  refine ew_iast (t := 82) (j := j) (N := 7) (h' := (hov h [(1, OB 0 (XOf (upd s 4 (nI (B + 1))))), (11, OB 2 [.null, .null, .null, .null, .null, .int 0, .int p0]), (13, IA 7 (frX (upd ff j QV))), (14, IA 7 (upd gg j 2))])) rfl (vp_in_nI (by omega) (by omega)) (nI_clamp (by omega)) dX0_readRings_81 (hov_up rfl) rfl ?_
                  have eT : TT = 2 := by rw [nT, if_neg (not_not_intro c_43)]
                  have eE : EE = B + 1 := by rw [nE, eT, if_neg (by decide)]
                  refine EW.heap (h' := (hov h [(1, OB 0 (XOf (upd s 4 (nI EE)))), (11, OB 2 [.null, .null, .null, .null, .null, .int 0, .int p0]), (13, IA 7 (frX (upd ff j QV))), (14, IA 7 (upd gg j TT))])) (by rw [eT, eE]) ?_
                  refine ew_iinc (t := 85) (x := (nI k)) (v := ((nI k) + 1)) (L' := [some (.ref 1), some (.int ((nI k) + 1)), some (.int (nI j)), some (.int 1)]) dX0_readRings_82 rfl rfl (Nat.le_of_ble_eq_true rfl) rfl rfl ?_
                  rw [nI_1 k]
                  refine ew_iload_n (t := 86) dX0_readRings_85 rfl rfl rfl ?_
                  refine ew_bipush (t := 88) (v := 6) dX0_readRings_86 (by decide) rfl ?_
                  refine ew_icmp_ge (t := 104) (t2 := 91) dX0_readRings_88 rfl rfl (fun c_88 => ?_) (fun c_88 => ?_)
                  · refine ew_ic0 (t := 105) dX0_readRings_104 rfl ?_
                    refine ew_istore_n (t := 106) (L' := [some (.ref 1), some (.int (nI (k + 1))), some (.int (nI j)), some (.int 0)]) dX0_readRings_105 rfl (Nat.le_of_ble_eq_true rfl) rfl rfl ?_
                    refine ew_goto (t := 11) dX0_readRings_106 rfl ?_
                    refine ew_iload_n (t := 12) dX0_readRings_11 rfl rfl rfl ?_
                    refine ew_if_eq (t := 109) (t2 := 15) dX0_readRings_12 rfl rfl (fun _ => ?_) (fun q => absurd rfl q)
                    rw [if_pos c_88] at hZ
                    rw [← hZ] at kk ⊢
                    exact kk _ rfl
                  · refine ew_aload_n (t := 92) dX0_readRings_91 rfl rfl rfl ?_
                    refine ew_bipush (t := 94) (v := 59) dX0_readRings_92 (by decide) rfl ?_
                    refine ew_callV (t := 97) (As := [_]) (ax_takes (h := (hov h [(11, OB 2 [.null, .null, .null, .null, .null, .int 0, .int p0]), (13, IA 7 (frX (upd ff j QV))), (14, IA 7 (upd gg j TT))])) (s := (upd s 4 (nI EE))) (a := EE) x12 h3 rfl (aE c_58) htp 59) (fcX0).1 rfl (lw_V q376 q378 qs6 q51 q379) rfl naX0_takes dX0_readRings_94 rfl (Nat.le_of_ble_eq_true rfl) (Nat.le_of_ble_eq_true rfl) (Nat.le_refl _) (Nat.le_refl _) (Nat.le_of_ble_eq_true rfl) rfl (qi ?_)
                    refine EW.heap (h' := (hov h [(1, OB 0 (XOf (upd s 4 (nI (tkA T tp EE 59))))), (11, OB 2 [.null, .null, .null, .null, .null, .int 0, .int p0]), (13, IA 7 (frX (upd ff j QV))), (14, IA 7 (upd gg j TT))])) (by rw [upd_upd]; rfl) ?_
                    have tz := tk_0 (T := T) (tp := tp) (a := EE) (c := 59) hT htp (aE c_58) (by decide) (by decide)
                    have ty := tk_1 (T := T) (tp := tp) (a := EE) (c := 59) hT htp (aE c_58) (by decide) (by decide)
                    replace tz : ¬ hrC T tp (hrN T tp EE) = 59 → tkI T tp EE 59 = 0 ∧ tkA T tp EE 59 = (hrN T tp EE) := tz
                    replace ty : hrC T tp (hrN T tp EE) = 59 → tkI T tp EE 59 = 1 ∧ tkA T tp EE 59 = (hrN T tp EE) + 1 := ty
                    by_cases c_59 : hrC T tp (hrN T tp EE) = 59
                    · rw [(ty c_59).1, (ty c_59).2]
                      refine ew_if_eq (t := 104) (t2 := 100) dX0_readRings_97 rfl rfl (fun c_97 => ?_) (fun c_97 => ?_)
                      · exact absurd c_97 (by decide)
                      · refine ew_ic1 (t := 101) dX0_readRings_100 rfl ?_
                        refine ew_goto (t := 105) dX0_readRings_101 rfl ?_
                        refine ew_istore_n (t := 106) (L' := [some (.ref 1), some (.int (nI (k + 1))), some (.int (nI j)), some (.int 1)]) dX0_readRings_105 rfl (Nat.le_of_ble_eq_true rfl) rfl rfl ?_
                        refine ew_goto (t := 11) dX0_readRings_106 rfl ?_
                        rw [if_neg c_88, if_neg (not_not_intro c_59), ejh, ← hEE, ← hQV, ← hTT] at hZ
                        exact ih (k + 1) j (hrN T tp EE + 1) _ _ (by omega) hj (hrC_lt c_59 (by decide) (hrN_le (aE c_58)).2 htp) hZ
                    · rw [(tz c_59).1, (tz c_59).2]
                      refine ew_if_eq (t := 104) (t2 := 100) dX0_readRings_97 rfl rfl (fun c_97 => ?_) (fun c_97 => ?_)
                      · refine ew_ic0 (t := 105) dX0_readRings_104 rfl ?_
                        refine ew_istore_n (t := 106) (L' := [some (.ref 1), some (.int (nI (k + 1))), some (.int (nI j)), some (.int 0)]) dX0_readRings_105 rfl (Nat.le_of_ble_eq_true rfl) rfl rfl ?_
                        refine ew_goto (t := 11) dX0_readRings_106 rfl ?_
                        refine ew_iload_n (t := 12) dX0_readRings_11 rfl rfl rfl ?_
                        refine ew_if_eq (t := 109) (t2 := 15) dX0_readRings_12 rfl rfl (fun _ => ?_) (fun q => absurd rfl q)
                        rw [if_neg c_88, if_pos c_59] at hZ
                        rw [← hZ] at kk ⊢
                        exact kk _ rfl
                      · exact absurd c_97 (by decide)
              · rw [(tz c_43).1, (tz c_43).2]
                refine ew_if_eq (t := 80) (t2 := 76) dX0_readRings_73 rfl rfl (fun c_73 => ?_) (fun c_73 => ?_)
                · refine ew_ic0 (t := 81) dX0_readRings_80 rfl ?_
                  refine ew_iast (t := 82) (j := j) (N := 7) (h' := (hov h [(1, OB 0 (XOf (upd s 4 (nI B)))), (11, OB 2 [.null, .null, .null, .null, .null, .int 0, .int p0]), (13, IA 7 (frX (upd ff j QV))), (14, IA 7 (upd gg j 0))])) rfl (vp_in_nI (by omega) (by omega)) (nI_clamp (by omega)) dX0_readRings_81 (hov_up rfl) rfl ?_
                  have eT : TT = 0 := by rw [nT, if_pos c_43, if_pos c_45]
                  have eE : EE = B := by rw [nE, eT, if_pos (by decide), Nat.add_zero]
                  refine EW.heap (h' := (hov h [(1, OB 0 (XOf (upd s 4 (nI EE)))), (11, OB 2 [.null, .null, .null, .null, .null, .int 0, .int p0]), (13, IA 7 (frX (upd ff j QV))), (14, IA 7 (upd gg j TT))])) (by rw [eT, eE]) ?_
                  refine ew_iinc (t := 85) (x := (nI k)) (v := ((nI k) + 1)) (L' := [some (.ref 1), some (.int ((nI k) + 1)), some (.int (nI j)), some (.int 1)]) dX0_readRings_82 rfl rfl (Nat.le_of_ble_eq_true rfl) rfl rfl ?_
                  rw [nI_1 k]
                  refine ew_iload_n (t := 86) dX0_readRings_85 rfl rfl rfl ?_
                  refine ew_bipush (t := 88) (v := 6) dX0_readRings_86 (by decide) rfl ?_
                  refine ew_icmp_ge (t := 104) (t2 := 91) dX0_readRings_88 rfl rfl (fun c_88 => ?_) (fun c_88 => ?_)
                  · refine ew_ic0 (t := 105) dX0_readRings_104 rfl ?_
                    refine ew_istore_n (t := 106) (L' := [some (.ref 1), some (.int (nI (k + 1))), some (.int (nI j)), some (.int 0)]) dX0_readRings_105 rfl (Nat.le_of_ble_eq_true rfl) rfl rfl ?_
                    refine ew_goto (t := 11) dX0_readRings_106 rfl ?_
                    refine ew_iload_n (t := 12) dX0_readRings_11 rfl rfl rfl ?_
                    refine ew_if_eq (t := 109) (t2 := 15) dX0_readRings_12 rfl rfl (fun _ => ?_) (fun q => absurd rfl q)
                    rw [if_pos c_88] at hZ
                    rw [← hZ] at kk ⊢
                    exact kk _ rfl
                  · refine ew_aload_n (t := 92) dX0_readRings_91 rfl rfl rfl ?_
                    refine ew_bipush (t := 94) (v := 59) dX0_readRings_92 (by decide) rfl ?_
                    refine ew_callV (t := 97) (As := [_]) (ax_takes (h := (hov h [(11, OB 2 [.null, .null, .null, .null, .null, .int 0, .int p0]), (13, IA 7 (frX (upd ff j QV))), (14, IA 7 (upd gg j TT))])) (s := (upd s 4 (nI EE))) (a := EE) x12 h3 rfl (aE c_58) htp 59) (fcX0).1 rfl (lw_V q376 q378 qs6 q51 q379) rfl naX0_takes dX0_readRings_94 rfl (Nat.le_of_ble_eq_true rfl) (Nat.le_of_ble_eq_true rfl) (Nat.le_refl _) (Nat.le_refl _) (Nat.le_of_ble_eq_true rfl) rfl (qi ?_)
                    refine EW.heap (h' := (hov h [(1, OB 0 (XOf (upd s 4 (nI (tkA T tp EE 59))))), (11, OB 2 [.null, .null, .null, .null, .null, .int 0, .int p0]), (13, IA 7 (frX (upd ff j QV))), (14, IA 7 (upd gg j TT))])) (by rw [upd_upd]; rfl) ?_
                    have tz := tk_0 (T := T) (tp := tp) (a := EE) (c := 59) hT htp (aE c_58) (by decide) (by decide)
                    have ty := tk_1 (T := T) (tp := tp) (a := EE) (c := 59) hT htp (aE c_58) (by decide) (by decide)
                    replace tz : ¬ hrC T tp (hrN T tp EE) = 59 → tkI T tp EE 59 = 0 ∧ tkA T tp EE 59 = (hrN T tp EE) := tz
                    replace ty : hrC T tp (hrN T tp EE) = 59 → tkI T tp EE 59 = 1 ∧ tkA T tp EE 59 = (hrN T tp EE) + 1 := ty
                    by_cases c_59 : hrC T tp (hrN T tp EE) = 59
                    · rw [(ty c_59).1, (ty c_59).2]
                      refine ew_if_eq (t := 104) (t2 := 100) dX0_readRings_97 rfl rfl (fun c_97 => ?_) (fun c_97 => ?_)
                      · exact absurd c_97 (by decide)
                      · refine ew_ic1 (t := 101) dX0_readRings_100 rfl ?_
                        refine ew_goto (t := 105) dX0_readRings_101 rfl ?_
                        refine ew_istore_n (t := 106) (L' := [some (.ref 1), some (.int (nI (k + 1))), some (.int (nI j)), some (.int 1)]) dX0_readRings_105 rfl (Nat.le_of_ble_eq_true rfl) rfl rfl ?_
                        refine ew_goto (t := 11) dX0_readRings_106 rfl ?_
                        rw [if_neg c_88, if_neg (not_not_intro c_59), ejh, ← hEE, ← hQV, ← hTT] at hZ
                        exact ih (k + 1) j (hrN T tp EE + 1) _ _ (by omega) hj (hrC_lt c_59 (by decide) (hrN_le (aE c_58)).2 htp) hZ
                    · rw [(tz c_59).1, (tz c_59).2]
                      refine ew_if_eq (t := 104) (t2 := 100) dX0_readRings_97 rfl rfl (fun c_97 => ?_) (fun c_97 => ?_)
                      · refine ew_ic0 (t := 105) dX0_readRings_104 rfl ?_
                        refine ew_istore_n (t := 106) (L' := [some (.ref 1), some (.int (nI (k + 1))), some (.int (nI j)), some (.int 0)]) dX0_readRings_105 rfl (Nat.le_of_ble_eq_true rfl) rfl rfl ?_
                        refine ew_goto (t := 11) dX0_readRings_106 rfl ?_
                        refine ew_iload_n (t := 12) dX0_readRings_11 rfl rfl rfl ?_
                        refine ew_if_eq (t := 109) (t2 := 15) dX0_readRings_12 rfl rfl (fun _ => ?_) (fun q => absurd rfl q)
                        rw [if_neg c_88, if_pos c_59] at hZ
                        rw [← hZ] at kk ⊢
                        exact kk _ rfl
                      · exact absurd c_97 (by decide)
                · exact absurd c_73 (by decide)
            · exact absurd c_60 (by decide)
        · exact absurd c_31 (by decide)
      · rw [(tz c_58).1, (tz c_58).2]
        refine ew_if_ne (t := 39) (t2 := 34) dX0_readRings_31 rfl rfl (fun c_31 => ?_) (fun c_31 => ?_)
        · exact absurd c_31 (by decide)
        · refine ew_aload_n (t := 35) dX0_readRings_34 rfl rfl rfl ?_
          refine ew_callV (t := 38) (As := []) (ax_wrong (h := (hov h [(13, IA 7 (frX ff)), (14, IA 7 gg)])) (s := (upd s 4 (nI A))) (p0 := p0)) (fcX0).1 rfl (lw_V q372 q374 qs5 q51 q375) rfl naX0_wrong dX0_readRings_35 rfl (Nat.le_of_ble_eq_true rfl) (Nat.le_of_ble_eq_true rfl) (Nat.le_refl _) (Nat.le_refl _) (Nat.le_of_ble_eq_true rfl) rfl (qr ?_)
          refine ew_athrow dX0_readRings_38 ?_
          refine et_leave (by decide +kernel) (by decide +kernel) (Nat.le_refl _) (Nat.le_refl _) ?_
          rw [if_pos c_58] at hZ
          exact RgQ.thr (by rw [← hZ]; show ¬ (1 : Int32) = 0; decide) (by rw [← hZ]) rfl
