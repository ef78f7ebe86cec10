-- Obj fields dict_keys(['cls', 'fun', 'sname', 'refs', 'extra', 'ups'])
/-! the reference: rings, its loop -/
set_option maxRecDepth 100000
section RG
variable (T : Nat → Int32) (tp lo a : Nat)
def rgN : Int32 × Nat × Int32 := dgR T tp a 0 (nI lo + 1) 6
def rgH : Nat := (rgN T tp lo a).1.toNatClampNeg
def rgA : Nat := hrN T tp (rgN T tp lo a).2.1
def rgQ : Int32 × Nat × Int32 := nmR T tp (rgA T tp lo a + 1) 0
def rgB : Nat := hrN T tp (rgQ T tp lo a).2.1
def rgT : Int32 := if ¬ hrC T tp (rgB T tp lo a) = 43 then (if ¬ hrC T tp (rgB T tp lo a) = 45 then 0 else 1) else 2
def rgE : Nat := rgB T tp lo a + (if rgT T tp lo a ≤ 0 then 0 else 1)
/-- the rings read: place, wrong, how many, fars, tones -/
abbrev RGS : Type := Nat × Int32 × Nat × (Nat → Int32) × (Nat → Int32)
def rgS (k : Nat) (f g : Nat → Int32) (E : RGS) : RGS :=
  if ¬ (rgN T tp lo a).2.2 = 0 then ((rgN T tp lo a).2.1, 1, k + 1, upd f (rgH T tp lo a) 0, upd g (rgH T tp lo a) 0)
  else if ¬ hrC T tp (rgA T tp lo a) = 58 then (rgA T tp lo a, 1, k + 1, upd f (rgH T tp lo a) 0, upd g (rgH T tp lo a) 0)
  else if ¬ (rgQ T tp lo a).2.2 = 0 then ((rgQ T tp lo a).2.1, (rgQ T tp lo a).2.2, k + 1, upd f (rgH T tp lo a) (rgQ T tp lo a).1, upd g (rgH T tp lo a) 0)
  else if 6 ≤ nI (k + 1) then (rgE T tp lo a, 0, k + 1, upd f (rgH T tp lo a) (rgQ T tp lo a).1, upd g (rgH T tp lo a) (rgT T tp lo a))
  else if ¬ hrC T tp (hrN T tp (rgE T tp lo a)) = 59 then (hrN T tp (rgE T tp lo a), 0, k + 1, upd f (rgH T tp lo a) (rgQ T tp lo a).1, upd g (rgH T tp lo a) (rgT T tp lo a))
  else E
end RG
def rgR (T : Nat → Int32) (tp : Nat) : Nat → Nat → Nat → Nat → (Nat → Int32) → (Nat → Int32) → RGS
  | 0, k, lo, a, f, g => rgS T tp lo a k f g (0, 0, 0, f, g)
  | u + 1, k, lo, a, f, g => rgS T tp lo a k f g (rgR T tp u (k + 1) (rgH T tp lo a) (hrN T tp (rgE T tp lo a) + 1) (upd f (rgH T tp lo a) (rgQ T tp lo a).1) (upd g (rgH T tp lo a) (rgT T tp lo a)))
theorem dgR_h {T : Nat → Int32} {tp a lo : Nat} (hlo : lo ≤ 6) : ∃ j : Nat, j ≤ 6 ∧ (dgR T tp a 0 (nI lo + 1) 6).1 = nI j := by
  unfold dgR
  rw [if_neg (not_not_intro rfl)]
  by_cases c2 : b2i (inL (hrC T tp (hrN T tp a)).toInt64 ((48 : Int32) + (nI lo + 1)).toInt64 ((48 : Int32) + 6).toInt64) = 0
  · rw [if_neg (not_not_intro c2)]; exact ⟨0, by omega, rfl⟩
  · rw [if_pos c2]
    have h2 := b2i_1.mp c2
    rw [inL_I, inI_iff] at h2
    obtain ⟨h3, h4⟩ := h2
    rw [nI_1, show (48 : Int32) + nI (lo + 1) = nI (48 + (lo + 1)) from nI_add 48 (lo + 1)] at h3
    have h5 : (48 : Int32) ≤ hrC T tp (hrN T tp a) := Int32.le_trans (show nI 48 ≤ nI (48 + (lo + 1)) from nI_le (by omega) (by omega)) h3
    obtain ⟨j, h6, h7⟩ := nI_of2 (M := (48 + 6)) (n := 54) (by decide) (Int32.not_lt.mpr (Int32.le_trans (by decide) h5)) h4
    refine ⟨j - 48, by omega, ?_⟩
    have h8 : 48 ≤ j := by
      rw [h7] at h5
      exact (nI_leI (a := 48) (b := j) (by omega) (by omega)).mp h5
    show hrC T tp (hrN T tp a) - 48 = nI (j - 48)
    have h9 : nI j = nI (j - 48) + nI 48 := by rw [nI_add]; congr 1; omega
    rw [h7, h9, show (48 : Int32) = nI 48 from rfl]
    exact Int32.add_sub_cancel _ _
theorem hrC_lt {T : Nat → Int32} {tp a : Nat} {c : Int32} (h : hrC T tp a = c) (hc : ¬ c = 0) (ha : a ≤ tp) (htp : tp ≤ 60) : a + 1 ≤ tp := by
  by_cases e : tp ≤ a
  · exact absurd (h.symm.trans (hrC_end e (by omega))) hc
  · omega
theorem nmR_le {T : Nat → Int32} {tp a : Nat} {wr : Int32} (ha : a ≤ tp) (htp : tp ≤ 60) : (nmR T tp a wr).2.1 ≤ tp := by
  have h1 := (hrN_le (T := T) ha).2
  unfold nmR
  by_cases c1 : wr = 0
  · rw [if_neg (not_not_intro c1)]
    by_cases c2 : hrC T tp (hrN T tp a) = 63
    · rw [if_neg (not_not_intro c2)]
      exact hrC_lt c2 (by decide) h1 htp
    · rw [if_pos c2]
      by_cases c3 : b2i (inL (hrC T tp (hrN T tp a)).toInt64 48 57) = 0
      · rw [if_neg (not_not_intro c3)]; exact h1
      · rw [if_pos c3]
        have h2 := nmL_le (T := T) (tp - hrN T tp a) 0 (hrN T tp a)
        unfold nmE
        by_cases c4 : (nmL T (tp - hrN T tp a) 0 (hrN T tp a)).1 ≤ 40
        · rw [if_pos c4]; show (nmL T (tp - hrN T tp a) 0 (hrN T tp a)).2 ≤ tp; omega
        · rw [if_neg c4]; exact h1
  · rw [if_pos c1]; exact ha
section RG2
variable {T : Nat → Int32} {tp lo a : Nat}
theorem rgN_le (ha : a ≤ tp) (htp : tp ≤ 60) (hlo : lo ≤ 6) : (rgN T tp lo a).2.1 ≤ tp := by
  unfold rgN
  rw [nI_1]
  exact dgR_le ha htp (by omega)
theorem rgA_le (ha : a ≤ tp) (htp : tp ≤ 60) (hlo : lo ≤ 6) : rgA T tp lo a ≤ tp := by
  unfold rgA
  exact (hrN_le (rgN_le ha htp hlo)).2
theorem rgQ_le (ha : a ≤ tp) (htp : tp ≤ 60) (hlo : lo ≤ 6) (c : hrC T tp (rgA T tp lo a) = 58) : (rgQ T tp lo a).2.1 ≤ tp := by
  unfold rgQ
  exact nmR_le (hrC_lt c (by decide) (rgA_le ha htp hlo) htp) htp
theorem rgB_le (ha : a ≤ tp) (htp : tp ≤ 60) (hlo : lo ≤ 6) (c : hrC T tp (rgA T tp lo a) = 58) : rgB T tp lo a ≤ tp := by
  unfold rgB
  exact (hrN_le (rgQ_le ha htp hlo c)).2
theorem rgE_le (ha : a ≤ tp) (htp : tp ≤ 60) (hlo : lo ≤ 6) (c : hrC T tp (rgA T tp lo a) = 58) : rgE T tp lo a ≤ tp := by
  have h1 := rgB_le ha htp hlo c
  unfold rgE rgT
  by_cases c1 : hrC T tp (rgB T tp lo a) = 43
  · rw [if_neg (not_not_intro c1), if_neg (by decide)]
    exact hrC_lt c1 (by decide) h1 htp
  · rw [if_pos c1]
    by_cases c2 : hrC T tp (rgB T tp lo a) = 45
    · rw [if_neg (not_not_intro c2), if_neg (by decide)]
      exact hrC_lt c2 (by decide) h1 htp
    · rw [if_pos c2, if_pos (by decide), Nat.add_zero]; exact h1
end RG2

theorem rgE_eq {T : Nat → Int32} {tp lo a : Nat} : nI (rgB T tp lo a) + (if rgT T tp lo a ≤ 0 then (0 : Int32) else 1) = nI (rgE T tp lo a) := by
  unfold rgE
  by_cases c : rgT T tp lo a ≤ 0
  · rw [if_pos c, if_pos c, Nat.add_zero, Int32.add_zero]
  · rw [if_neg c, if_neg c, nI_1]
set_option maxHeartbeats 600000 in
theorem lp_rings {l : Launch} {G : GW} {h : AH} {n : Nat} {s : Nat → Int32} {al : Int64} {T : Nat → Int32} {tp : Nat} {Q : Option Value → AH → Nat → Prop} (m40 : h 40 = some (IA 60 T)) (h7 : s 7 = nI tp) (htp : tp ≤ 60) {Z : RGS} (kk : ∀ (s' : Nat → Int32) (o2 o4 o5 : Option Value), (s' 8 = nI Z.1 ∧ s' 9 = Z.2.1 ∧ ∀ j, j ≠ 8 → j ≠ 9 → s' j = s j) → EW l G yX4_rings cX4_rings 6 (some .int) 3 0 0 Q 0 0 (hov h [(33, OB 4 (MOf s' al)), (41, IA 7 Z.2.2.2.1), (42, IA 7 Z.2.2.2.2)]) n 252 [some (.ref 33), some (.int (nI Z.2.2.1)), o2, some (.int 0), o4, o5] []) : ∀ (u k lo a : Nat) (ff gg s' : Nat → Int32) (o4 o5 : Option Value), k + u = 5 → lo ≤ 6 → a ≤ tp → (s' 8 = nI a ∧ s' 9 = 0 ∧ ∀ j, j ≠ 8 → j ≠ 9 → s' j = s j) → rgR T tp u k lo a ff gg = Z → EW l G yX4_rings cX4_rings 6 (some .int) 3 0 0 Q 0 0 (hov h [(33, OB 4 (MOf s' al)), (41, IA 7 ff), (42, IA 7 gg)]) n 54 [some (.ref 33), some (.int (nI k)), some (.int (nI lo)), some (.int 1), o4, o5] [] := by
  intro u
  induction u with
  | zero =>
    intro k lo a ff gg s' o4 o5 hk hlo ha hs hZ
    obtain ⟨j, hj, ej⟩ := dgR_h (T := T) (tp := tp) (a := a) hlo
    have ejh : rgH T tp lo a = j := by unfold rgH rgN; rw [ej]; exact nI_clamp (by omega)
    have ejn : (rgN T tp lo a).1 = nI j := ej
    obtain ⟨NP, hNP⟩ : ∃ x, x = (rgN T tp lo a).2.1 := ⟨_, rfl⟩
    obtain ⟨NW, hNW⟩ : ∃ x, x = (rgN T tp lo a).2.2 := ⟨_, rfl⟩
    obtain ⟨A, hA⟩ : ∃ x, x = rgA T tp lo a := ⟨_, rfl⟩
    obtain ⟨QV, hQV⟩ : ∃ x, x = (rgQ T tp lo a).1 := ⟨_, rfl⟩
    obtain ⟨QP, hQP⟩ : ∃ x, x = (rgQ T tp lo a).2.1 := ⟨_, rfl⟩
    obtain ⟨QW, hQW⟩ : ∃ x, x = (rgQ T tp lo a).2.2 := ⟨_, rfl⟩
    obtain ⟨B, hB⟩ : ∃ x, x = rgB T tp lo a := ⟨_, rfl⟩
    obtain ⟨TT, hTT⟩ : ∃ x, x = rgT T tp lo a := ⟨_, rfl⟩
    obtain ⟨EE, hEE⟩ : ∃ x, x = rgE T tp lo a := ⟨_, rfl⟩
    have hS : ∀ E : RGS, rgS T tp lo a k ff gg E = if ¬ NW = 0 then (NP, 1, k + 1, upd ff j 0, upd gg j 0) else if ¬ hrC T tp A = 58 then (A, 1, k + 1, upd ff j 0, upd gg j 0) else if ¬ QW = 0 then (QP, QW, k + 1, upd ff j QV, upd gg j 0) else if 6 ≤ nI (k + 1) then (EE, 0, k + 1, upd ff j QV, upd gg j TT) else if ¬ hrC T tp (hrN T tp EE) = 59 then (hrN T tp EE, 0, k + 1, upd ff j QV, upd gg j TT) else E := by
      intro E
      unfold rgS
      rw [ejh, ← hNP, ← hNW, ← hA, ← hQV, ← hQP, ← hQW, ← hTT, ← hEE]
    have aA : A ≤ tp := by rw [hA]; exact rgA_le ha htp hlo
    have aN : NP ≤ tp := by rw [hNP]; exact rgN_le ha htp hlo
    have aQ : hrC T tp A = 58 → QP ≤ tp := by intro q; rw [hA] at q; rw [hQP]; exact rgQ_le ha htp hlo q
    have aE : hrC T tp A = 58 → EE ≤ tp := by intro q; rw [hA] at q; rw [hEE]; exact rgE_le ha htp hlo q
    have nA : hrN T tp NP = A := by rw [hNP, hA]; rfl
    have nQ : nmR T tp (A + 1) 0 = rgQ T tp lo a := by rw [hA]; rfl
    have nB : hrN T tp QP = B := by rw [hQP, hB]; rfl
    have nT : TT = if ¬ hrC T tp B = 43 then (if ¬ hrC T tp B = 45 then 0 else 1) else 2 := by rw [hTT, hB]; rfl
    have nE : nI B + (if TT ≤ 0 then (0 : Int32) else 1) = nI EE := by rw [hTT, hB, hEE]; exact rgE_eq
    refine ew_iload_n (t := 55) dX4_rings_54 rfl rfl rfl ?_
    refine ew_if_eq (t := 252) (t2 := 58) dX4_rings_55 rfl rfl (fun c_55 => ?_) (fun c_55 => ?_)
    · exact absurd c_55 (by decide)
    · refine ew_aload_n (t := 59) dX4_rings_58 rfl rfl rfl ?_
      refine ew_iload_n (t := 60) dX4_rings_59 rfl rfl rfl ?_
      refine ew_ic1 (t := 61) dX4_rings_60 rfl ?_
      refine ew_iadd (t := 62) dX4_rings_61 rfl ?_
      refine ew_bipush (t := 64) (v := 6) dX4_rings_62 (by decide) rfl ?_
      have dg := fun (l : Launch) (G : GW) => am_digit (l := l) (G := G) (h := (hov h [(33, OB 4 (MOf s' al)), (41, IA 7 ff), (42, IA 7 gg)])) (n := n) (s := s') (al := al) (a := a) rfl m40 ((hs.2.2 7 (by decide) (by decide)).trans h7) hs.1 ha htp (nI lo + 1) 6
      rw [hs.2.1, show dgR T tp a 0 (nI lo + 1) 6 = rgN T tp lo a from rfl] at dg
      refine ew_callV (t := 67) (As := [_, _]) (dg l G) (fcX4).1 rfl (lw_V q1188 q1190 qs30 q60 q1191) rfl naX4_digit dX4_rings_64 rfl (Nat.le_of_ble_eq_true rfl) (Nat.le_of_ble_eq_true rfl) (Nat.le_refl _) (Nat.le_refl _) (Nat.le_of_ble_eq_true rfl) rfl (fun r h1 n1 q => ?_)
      obtain ⟨rfl, qn, s2, rfl, e8, e9, e0⟩ := q
      replace qn := qn.symm
      subst qn
      rw [← hNP] at e8
      rw [← hNW] at e9
      rw [ejn]
      refine EW.heap (h' := hov h [(33, MO s2 al), (41, IA 7 ff), (42, IA 7 gg)]) (hov_mrg rfl) ?_
      refine ew_istore (t := 69) (L' := [some (.ref 33), some (.int (nI k)), some (.int (nI lo)), some (.int 1), some (.int (nI j)), o5]) dX4_rings_67 (Nat.le_of_ble_eq_true rfl) rfl rfl ?_
      refine ew_iload (t := 71) dX4_rings_69 rfl rfl ?_
      refine ew_istore_n (t := 72) (L' := [some (.ref 33), some (.int (nI k)), some (.int (nI j)), some (.int 1), some (.int (nI j)), o5]) dX4_rings_71 rfl (Nat.le_of_ble_eq_true rfl) rfl rfl ?_
      refine ew_aload_n (t := 73) dX4_rings_72 rfl rfl rfl ?_
      refine ew_aload_n (t := 74) dX4_rings_73 rfl rfl rfl ?_
      refine ew_get (t := 77) (j := 9) (v := .int (s2 9)) fcX4 rfl (Nat.le_of_ble_eq_true rfl) q1030 rfl dX4_rings_74 rfl ?_
      rw [e9]
      refine ew_if_ne (t := 89) (t2 := 80) dX4_rings_77 rfl rfl (fun c_77 => ?_) (fun c_77 => ?_)
      · refine ew_ic1 (t := 90) dX4_rings_89 rfl ?_
        refine ew_goto (t := 94) dX4_rings_90 rfl ?_
        refine ew_put (t := 97) (j := 9) (fs' := MOf (upd s2 9 1) al) (h' := (hov h [(33, OB 4 (MOf (upd s2 9 1) al)), (41, IA 7 ff), (42, IA 7 gg)])) fcX4 rfl (Nat.le_of_ble_eq_true rfl) rfl q1030 (by decide) (by decide) (Nat.le_of_ble_eq_true rfl) rfl dX4_rings_94 (hov_up rfl) rfl ?_
        refine ew_aload_n (t := 98) dX4_rings_97 rfl rfl rfl ?_
        refine ew_dup (t := 99) dX4_rings_98 rfl rfl ?_
        refine ew_get (t := 102) (j := 8) (v := .int (s2 8)) fcX4 rfl (Nat.le_of_ble_eq_true rfl) q1029 rfl dX4_rings_99 rfl ?_
        refine ew_aload_n (t := 103) dX4_rings_102 rfl rfl rfl ?_
        refine ew_get (t := 106) (j := 9) (v := .int 1) fcX4 rfl (Nat.le_of_ble_eq_true rfl) q1030 rfl dX4_rings_103 rfl ?_
        refine ew_if_eq (t := 113) (t2 := 109) dX4_rings_106 rfl rfl (fun c_106 => ?_) (fun c_106 => ?_)
        · exact absurd c_106 (by decide)
        · refine ew_ic0 (t := 110) dX4_rings_109 rfl ?_
          refine ew_goto (t := 114) dX4_rings_110 rfl ?_
          refine ew_iadd (t := 115) dX4_rings_114 rfl ?_
          refine ew_put (t := 118) (j := 8) (fs' := MOf (upd (upd s2 8 ((s2 8) + 0)) 9 1) al) (h' := (hov h [(33, OB 4 (MOf (upd (upd s2 8 ((s2 8) + 0)) 9 1) al)), (41, IA 7 ff), (42, IA 7 gg)])) fcX4 rfl (Nat.le_of_ble_eq_true rfl) rfl q1029 rfl rfl (Nat.le_of_ble_eq_true rfl) rfl dX4_rings_115 (hov_up rfl) rfl ?_
          refine ew_aload_n (t := 119) dX4_rings_118 rfl rfl rfl ?_
          refine ew_get (t := 122) (j := 10) (v := .ref 41) fcX4 rfl (Nat.le_of_ble_eq_true rfl) q1031 rfl dX4_rings_119 rfl ?_
          refine ew_iload (t := 124) dX4_rings_122 rfl rfl ?_
          refine ew_aload_n (t := 125) dX4_rings_124 rfl rfl rfl ?_
          have nm := fun (l : Launch) (G : GW) => am_number (l := l) (G := G) (h := (hov h [(33, OB 4 (MOf (upd (upd s2 8 ((s2 8) + 0)) 9 1) al)), (41, IA 7 ff), (42, IA 7 gg)])) (n := n) (s := (upd (upd s2 8 ((s2 8) + 0)) 9 1)) (al := al) (a := NP) rfl m40 ((e0 7 (by decide) (by decide)).trans ((hs.2.2 7 (by decide) (by decide)).trans h7)) (show (s2 8 + 0 : Int32) = _ from (Int32.add_zero _).trans e8) aN htp
          rw [show nmR T tp NP ((upd (upd s2 8 ((s2 8) + 0)) 9 1) 9) = (0, NP, 1) from if_pos (show ¬ (1 : Int32) = 0 by decide)] at nm
          refine ew_callV (t := 128) (As := []) (nm l G) (fcX4).1 rfl (lw_V q1196 q1198 qs32 q60 q1199) rfl naX4_number dX4_rings_125 rfl (Nat.le_of_ble_eq_true rfl) (Nat.le_of_ble_eq_true rfl) (Nat.le_refl _) (Nat.le_refl _) (Nat.le_of_ble_eq_true rfl) rfl (fun r h1 n1 q => ?_)
          obtain ⟨rfl, qn, s3, rfl, e38, e39, e30⟩ := q
          replace qn := qn.symm
          subst qn
          replace e38 : s3 8 = nI NP := e38
          replace e39 : s3 9 = 1 := e39
          refine EW.heap (h' := (hov h [(33, OB 4 (MOf s3 al)), (41, IA 7 ff), (42, IA 7 gg)])) (hov_mrg rfl) ?_
          refine ew_iast (t := 129) (j := j) (N := 7) (h' := (hov h [(33, OB 4 (MOf s3 al)), (41, IA 7 (upd ff j 0)), (42, IA 7 gg)])) rfl (vp_in_nI (by omega) (by omega)) (nI_clamp (by omega)) dX4_rings_128 (hov_up rfl) rfl ?_
          refine ew_aload_n (t := 130) dX4_rings_129 rfl rfl rfl ?_
          refine ew_get (t := 133) (j := 9) (v := .int (s3 9)) fcX4 rfl (Nat.le_of_ble_eq_true rfl) q1030 rfl dX4_rings_130 rfl ?_
          rw [e39]
          refine ew_if_eq (t := 140) (t2 := 136) dX4_rings_133 rfl rfl (fun c_133 => ?_) (fun c_133 => ?_)
          · exact absurd c_133 (by decide)
          · refine ew_ic0 (t := 137) dX4_rings_136 rfl ?_
            refine ew_goto (t := 144) dX4_rings_137 rfl ?_
            refine ew_istore (t := 146) (L' := [some (.ref 33), some (.int (nI k)), some (.int (nI j)), some (.int 1), some (.int (nI j)), some (.int 0)]) dX4_rings_144 (Nat.le_of_ble_eq_true rfl) rfl rfl ?_
            refine ew_aload_n (t := 147) dX4_rings_146 rfl rfl rfl ?_
            refine ew_get (t := 150) (j := 11) (v := .ref 42) fcX4 rfl (Nat.le_of_ble_eq_true rfl) q1032 rfl dX4_rings_147 rfl ?_
            refine ew_iload (t := 152) dX4_rings_150 rfl rfl ?_
            refine ew_iload (t := 154) dX4_rings_152 rfl rfl ?_
            refine ew_bipush (t := 156) (v := 43) dX4_rings_154 (by decide) rfl ?_
            refine ew_icmp_ne (t := 163) (t2 := 159) dX4_rings_156 rfl rfl (fun c_156 => ?_) (fun c_156 => ?_)
            · refine ew_iload (t := 165) dX4_rings_163 rfl rfl ?_
              refine ew_bipush (t := 167) (v := 45) dX4_rings_165 (by decide) rfl ?_
              refine ew_icmp_ne (t := 174) (t2 := 170) dX4_rings_167 rfl rfl (fun c_167 => ?_) (fun c_167 => ?_)
              · refine ew_ic0 (t := 175) dX4_rings_174 rfl ?_
                refine ew_iast (t := 176) (j := j) (N := 7) (h' := (hov h [(33, OB 4 (MOf s3 al)), (41, IA 7 (upd ff j 0)), (42, IA 7 (upd gg j 0))])) rfl (vp_in_nI (by omega) (by omega)) (nI_clamp (by omega)) dX4_rings_175 (hov_up rfl) rfl ?_
                refine ew_aload_n (t := 177) dX4_rings_176 rfl rfl rfl ?_
                refine ew_dup (t := 178) dX4_rings_177 rfl rfl ?_
                refine ew_get (t := 181) (j := 8) (v := .int (s3 8)) fcX4 rfl (Nat.le_of_ble_eq_true rfl) q1029 rfl dX4_rings_178 rfl ?_
                refine ew_aload_n (t := 182) dX4_rings_181 rfl rfl rfl ?_
                refine ew_get (t := 185) (j := 11) (v := .ref 42) fcX4 rfl (Nat.le_of_ble_eq_true rfl) q1032 rfl dX4_rings_182 rfl ?_
                refine ew_iload (t := 187) dX4_rings_185 rfl rfl ?_
                refine ew_iald (t := 188) (j := j) (N := 7) rfl (vp_in_nI (by omega) (by omega)) (nI_clamp (by omega)) dX4_rings_187 rfl ?_
                rw [pk_us]
                refine ew_if_le (t := 195) (t2 := 191) dX4_rings_188 rfl rfl (fun c_188 => ?_) (fun c_188 => ?_)
                · refine ew_ic0 (t := 196) dX4_rings_195 rfl ?_
                  refine ew_iadd (t := 197) dX4_rings_196 rfl ?_
                  refine ew_put (t := 200) (j := 8) (fs' := MOf (upd s3 8 ((s3 8) + 0)) al) (h' := (hov h [(33, OB 4 (MOf (upd s3 8 ((s3 8) + 0)) al)), (41, IA 7 (upd ff j 0)), (42, IA 7 (upd gg j 0))])) fcX4 rfl (Nat.le_of_ble_eq_true rfl) rfl q1029 rfl rfl (Nat.le_of_ble_eq_true rfl) rfl dX4_rings_197 (hov_up rfl) rfl ?_
                  refine ew_iinc (t := 203) (x := (nI k)) (v := ((nI k) + 1)) (L' := [some (.ref 33), some (.int ((nI k) + 1)), some (.int (nI j)), some (.int 1), some (.int (nI j)), some (.int 0)]) dX4_rings_200 rfl rfl (Nat.le_of_ble_eq_true rfl) rfl rfl ?_
                  rw [nI_1 k]
                  refine ew_aload_n (t := 204) dX4_rings_203 rfl rfl rfl ?_
                  refine ew_get (t := 207) (j := 9) (v := .int (s3 9)) fcX4 rfl (Nat.le_of_ble_eq_true rfl) q1030 rfl dX4_rings_204 rfl ?_
                  rw [e39]
                  refine ew_if_ne (t := 229) (t2 := 210) dX4_rings_207 rfl rfl (fun c_207 => ?_) (fun c_207 => ?_)
                  · refine ew_ic0 (t := 230) dX4_rings_229 rfl ?_
                    refine ew_istore_n (t := 231) (L' := [some (.ref 33), some (.int (nI (k + 1))), some (.int (nI j)), some (.int 0), some (.int (nI j)), some (.int 0)]) dX4_rings_230 rfl (Nat.le_of_ble_eq_true rfl) rfl rfl ?_
                    refine ew_aload_n (t := 232) dX4_rings_231 rfl rfl rfl ?_
                    refine ew_dup (t := 233) dX4_rings_232 rfl rfl ?_
                    refine ew_get (t := 236) (j := 8) (v := .int ((s3 8) + 0)) fcX4 rfl (Nat.le_of_ble_eq_true rfl) q1029 rfl dX4_rings_233 rfl ?_
                    refine ew_iload_n (t := 237) dX4_rings_236 rfl rfl rfl ?_
                    refine ew_if_eq (t := 244) (t2 := 240) dX4_rings_237 rfl rfl (fun c_237 => ?_) (fun c_237 => ?_)
                    · refine ew_ic0 (t := 245) dX4_rings_244 rfl ?_
                      refine ew_iadd (t := 246) dX4_rings_245 rfl ?_
                      refine ew_put (t := 249) (j := 8) (fs' := MOf (upd s3 8 (((s3 8) + 0) + 0)) al) (h' := (hov h [(33, OB 4 (MOf (upd s3 8 (((s3 8) + 0) + 0)) al)), (41, IA 7 (upd ff j 0)), (42, IA 7 (upd gg j 0))])) fcX4 rfl (Nat.le_of_ble_eq_true rfl) rfl q1029 rfl rfl (Nat.le_of_ble_eq_true rfl) rfl dX4_rings_246 (hov_up rfl) rfl ?_
                      refine ew_goto (t := 54) dX4_rings_249 rfl ?_
                      refine ew_iload_n (t := 55) dX4_rings_54 rfl rfl rfl ?_
                      refine ew_if_eq (t := 252) (t2 := 58) dX4_rings_55 rfl rfl (fun _ => ?_) (fun q => absurd rfl q)
                      have hz := hZ.symm.trans ((hS _).trans (by rw [if_pos c_77]))
                      rw [hz] at kk
                      exact kk _ _ _ _ ⟨by show (s3 8 + 0 + 0 : Int32) = _; rw [e38, Int32.add_zero, Int32.add_zero], e39, fun i h1 h2 => by first | rw [pk_un h1, e30 i h1 h2, pk_un h2, pk_un h1, e0 i h1 h2, hs.2.2 i h1 h2] | rw [pk_un h1, e30 i h1 h2, pk_un h2, pk_un h1, pk_un h1, e0 i h1 h2, hs.2.2 i h1 h2]⟩
                    · exact absurd c_237 (by decide)
                  · exact absurd c_207 (by decide)
                · exact absurd c_188 (by decide)
              · exact absurd c_167 (by decide)
            · exact absurd c_156 (by decide)
      · refine ew_aload_n (t := 81) dX4_rings_80 rfl rfl rfl ?_
        refine ew_callV (t := 84) (As := []) (am_here (h := (hov h [(41, IA 7 ff), (42, IA 7 gg)])) (s := s2) (a := NP) m40 ((e0 7 (by decide) (by decide)).trans ((hs.2.2 7 (by decide) (by decide)).trans h7)) e8 aN htp) (fcX4).1 rfl (lw_V q1192 q1194 qs31 q60 q1195) rfl naX4_here dX4_rings_81 rfl (Nat.le_of_ble_eq_true rfl) (Nat.le_of_ble_eq_true rfl) (Nat.le_refl _) (Nat.le_refl _) (Nat.le_of_ble_eq_true rfl) rfl (qi ?_)
        rw [nA]
        refine EW.heap (h' := (hov h [(33, OB 4 (MOf (upd s2 8 (nI A)) al)), (41, IA 7 ff), (42, IA 7 gg)])) rfl ?_
        refine ew_bipush (t := 86) (v := 58) dX4_rings_84 (by decide) rfl ?_
        refine ew_icmp_eq (t := 93) (t2 := 89) dX4_rings_86 rfl rfl (fun c_86 => ?_) (fun c_86 => ?_)
        · refine ew_ic0 (t := 94) dX4_rings_93 rfl ?_
          refine ew_put (t := 97) (j := 9) (fs' := MOf (upd (upd s2 8 (nI A)) 9 0) al) (h' := (hov h [(33, OB 4 (MOf (upd (upd s2 8 (nI A)) 9 0) al)), (41, IA 7 ff), (42, IA 7 gg)])) fcX4 rfl (Nat.le_of_ble_eq_true rfl) rfl q1030 (by decide) (by decide) (Nat.le_of_ble_eq_true rfl) rfl dX4_rings_94 (hov_up rfl) rfl ?_
          refine ew_aload_n (t := 98) dX4_rings_97 rfl rfl rfl ?_
          refine ew_dup (t := 99) dX4_rings_98 rfl rfl ?_
          refine ew_get (t := 102) (j := 8) (v := .int (nI A)) fcX4 rfl (Nat.le_of_ble_eq_true rfl) q1029 rfl dX4_rings_99 rfl ?_
          refine ew_aload_n (t := 103) dX4_rings_102 rfl rfl rfl ?_
          refine ew_get (t := 106) (j := 9) (v := .int 0) fcX4 rfl (Nat.le_of_ble_eq_true rfl) q1030 rfl dX4_rings_103 rfl ?_
          refine ew_if_eq (t := 113) (t2 := 109) dX4_rings_106 rfl rfl (fun c_106 => ?_) (fun c_106 => ?_)
          · refine ew_ic1 (t := 114) dX4_rings_113 rfl ?_
            refine ew_iadd (t := 115) dX4_rings_114 rfl ?_
            refine ew_put (t := 118) (j := 8) (fs' := MOf (upd (upd s2 8 ((nI A) + 1)) 9 0) al) (h' := (hov h [(33, OB 4 (MOf (upd (upd s2 8 ((nI A) + 1)) 9 0) al)), (41, IA 7 ff), (42, IA 7 gg)])) fcX4 rfl (Nat.le_of_ble_eq_true rfl) rfl q1029 rfl rfl (Nat.le_of_ble_eq_true rfl) rfl dX4_rings_115 (hov_up rfl) rfl ?_
            refine ew_aload_n (t := 119) dX4_rings_118 rfl rfl rfl ?_
            refine ew_get (t := 122) (j := 10) (v := .ref 41) fcX4 rfl (Nat.le_of_ble_eq_true rfl) q1031 rfl dX4_rings_119 rfl ?_
            refine ew_iload (t := 124) dX4_rings_122 rfl rfl ?_
            refine ew_aload_n (t := 125) dX4_rings_124 rfl rfl rfl ?_
            have nm := fun (l : Launch) (G : GW) => am_number (l := l) (G := G) (h := (hov h [(33, OB 4 (MOf (upd (upd s2 8 ((nI A) + 1)) 9 0) al)), (41, IA 7 ff), (42, IA 7 gg)])) (n := n) (s := (upd (upd s2 8 ((nI A) + 1)) 9 0)) (al := al) (a := (A + 1)) rfl m40 ((e0 7 (by decide) (by decide)).trans ((hs.2.2 7 (by decide) (by decide)).trans h7)) (nI_1 _) (hrC_lt c_86 (by decide) aA htp) htp
            rw [show nmR T tp (A + 1) ((upd (upd s2 8 ((nI A) + 1)) 9 0) 9) = rgQ T tp lo a from nQ] at nm
            refine ew_callV (t := 128) (As := []) (nm l G) (fcX4).1 rfl (lw_V q1196 q1198 qs32 q60 q1199) rfl naX4_number dX4_rings_125 rfl (Nat.le_of_ble_eq_true rfl) (Nat.le_of_ble_eq_true rfl) (Nat.le_refl _) (Nat.le_refl _) (Nat.le_of_ble_eq_true rfl) rfl (fun r h1 n1 q => ?_)
            obtain ⟨rfl, qn, s3, rfl, e38, e39, e30⟩ := q
            replace qn := qn.symm
            subst qn
            rw [← hQP] at e38
            rw [← hQW] at e39
            rw [← hQV]
            refine EW.heap (h' := (hov h [(33, OB 4 (MOf s3 al)), (41, IA 7 ff), (42, IA 7 gg)])) (hov_mrg rfl) ?_
            refine ew_iast (t := 129) (j := j) (N := 7) (h' := (hov h [(33, OB 4 (MOf s3 al)), (41, IA 7 (upd ff j QV)), (42, IA 7 gg)])) rfl (vp_in_nI (by omega) (by omega)) (nI_clamp (by omega)) dX4_rings_128 (hov_up rfl) rfl ?_
            refine ew_aload_n (t := 130) dX4_rings_129 rfl rfl rfl ?_
            refine ew_get (t := 133) (j := 9) (v := .int (s3 9)) fcX4 rfl (Nat.le_of_ble_eq_true rfl) q1030 rfl dX4_rings_130 rfl ?_
            rw [e39]
            refine ew_if_eq (t := 140) (t2 := 136) dX4_rings_133 rfl rfl (fun c_133 => ?_) (fun c_133 => ?_)
            · refine ew_aload_n (t := 141) dX4_rings_140 rfl rfl rfl ?_
              refine ew_callV (t := 144) (As := []) (am_here (h := (hov h [(41, IA 7 (upd ff j QV)), (42, IA 7 gg)])) (s := s3) (a := QP) m40 ((e30 7 (by decide) (by decide)).trans ((e0 7 (by decide) (by decide)).trans ((hs.2.2 7 (by decide) (by decide)).trans h7))) e38 (aQ c_86) htp) (fcX4).1 rfl (lw_V q1192 q1194 qs31 q60 q1195) rfl naX4_here dX4_rings_141 rfl (Nat.le_of_ble_eq_true rfl) (Nat.le_of_ble_eq_true rfl) (Nat.le_refl _) (Nat.le_refl _) (Nat.le_of_ble_eq_true rfl) rfl (qi ?_)
              rw [nB]
              refine EW.heap (h' := (hov h [(33, OB 4 (MOf (upd s3 8 (nI B)) al)), (41, IA 7 (upd ff j QV)), (42, IA 7 gg)])) rfl ?_
              refine ew_istore (t := 146) (L' := [some (.ref 33), some (.int (nI k)), some (.int (nI j)), some (.int 1), some (.int (nI j)), some (.int (hrC T tp B))]) dX4_rings_144 (Nat.le_of_ble_eq_true rfl) rfl rfl ?_
              refine ew_aload_n (t := 147) dX4_rings_146 rfl rfl rfl ?_
              refine ew_get (t := 150) (j := 11) (v := .ref 42) fcX4 rfl (Nat.le_of_ble_eq_true rfl) q1032 rfl dX4_rings_147 rfl ?_
              refine ew_iload (t := 152) dX4_rings_150 rfl rfl ?_
              refine ew_iload (t := 154) dX4_rings_152 rfl rfl ?_
              refine ew_bipush (t := 156) (v := 43) dX4_rings_154 (by decide) rfl ?_
              have J175 : ∀ (j175_0 : Int32), j175_0 = ((if ¬ (hrC T tp B) = 43 then (if ¬ (hrC T tp B) = 45 then 0 else 1) else 2) : Int32) → EW l G yX4_rings cX4_rings 6 (some .int) 3 0 0 Q 0 0 (hov h [(33, OB 4 (MOf (upd s3 8 (nI B)) al)), (41, IA 7 (upd ff j QV)), (42, IA 7 gg)]) n 175 [some (.ref 33), some (.int (nI k)), some (.int (nI j)), some (.int 1), some (.int (nI j)), some (.int (hrC T tp B))] [.int j175_0, .int (nI j), .ref 42] := by
                intro j175_0 hj175_0
                rw [hj175_0, ← nT]
                refine ew_iast (t := 176) (j := j) (N := 7) (h' := (hov h [(33, OB 4 (MOf (upd s3 8 (nI B)) al)), (41, IA 7 (upd ff j QV)), (42, IA 7 (upd gg j TT))])) rfl (vp_in_nI (by omega) (by omega)) (nI_clamp (by omega)) dX4_rings_175 (hov_up rfl) rfl ?_
                refine ew_aload_n (t := 177) dX4_rings_176 rfl rfl rfl ?_
                refine ew_dup (t := 178) dX4_rings_177 rfl rfl ?_
                refine ew_get (t := 181) (j := 8) (v := .int (nI B)) fcX4 rfl (Nat.le_of_ble_eq_true rfl) q1029 rfl dX4_rings_178 rfl ?_
                refine ew_aload_n (t := 182) dX4_rings_181 rfl rfl rfl ?_
                refine ew_get (t := 185) (j := 11) (v := .ref 42) fcX4 rfl (Nat.le_of_ble_eq_true rfl) q1032 rfl dX4_rings_182 rfl ?_
                refine ew_iload (t := 187) dX4_rings_185 rfl rfl ?_
                refine ew_iald (t := 188) (j := j) (N := 7) rfl (vp_in_nI (by omega) (by omega)) (nI_clamp (by omega)) dX4_rings_187 rfl ?_
                rw [pk_us]
                have J196 : ∀ (j196_0 : Int32), j196_0 = ((if TT ≤ 0 then 0 else 1) : Int32) → EW l G yX4_rings cX4_rings 6 (some .int) 3 0 0 Q 0 0 (hov h [(33, OB 4 (MOf (upd s3 8 (nI B)) al)), (41, IA 7 (upd ff j QV)), (42, IA 7 (upd gg j TT))]) n 196 [some (.ref 33), some (.int (nI k)), some (.int (nI j)), some (.int 1), some (.int (nI j)), some (.int (hrC T tp B))] [.int j196_0, .int (nI B), .ref 33] := by
                  intro j196_0 hj196_0
                  refine ew_iadd (t := 197) dX4_rings_196 rfl ?_
                  rw [hj196_0, nE]
                  refine ew_put (t := 200) (j := 8) (fs' := MOf (upd s3 8 (nI EE)) al) (h' := (hov h [(33, OB 4 (MOf (upd s3 8 (nI EE)) al)), (41, IA 7 (upd ff j QV)), (42, IA 7 (upd gg j TT))])) fcX4 rfl (Nat.le_of_ble_eq_true rfl) rfl q1029 rfl rfl (Nat.le_of_ble_eq_true rfl) rfl dX4_rings_197 (hov_up rfl) rfl ?_
                  refine ew_iinc (t := 203) (x := (nI k)) (v := ((nI k) + 1)) (L' := [some (.ref 33), some (.int ((nI k) + 1)), some (.int (nI j)), some (.int 1), some (.int (nI j)), some (.int (hrC T tp B))]) dX4_rings_200 rfl rfl (Nat.le_of_ble_eq_true rfl) rfl rfl ?_
                  rw [nI_1 k]
                  refine ew_aload_n (t := 204) dX4_rings_203 rfl rfl rfl ?_
                  refine ew_get (t := 207) (j := 9) (v := .int (s3 9)) fcX4 rfl (Nat.le_of_ble_eq_true rfl) q1030 rfl dX4_rings_204 rfl ?_
                  rw [e39]
                  refine ew_if_ne (t := 229) (t2 := 210) dX4_rings_207 rfl rfl (fun c_207 => ?_) (fun c_207 => ?_)
                  · exact absurd c_133 c_207
                  · refine ew_iload_n (t := 211) dX4_rings_210 rfl rfl rfl ?_
                    refine ew_bipush (t := 213) (v := 6) dX4_rings_211 (by decide) rfl ?_
                    refine ew_icmp_ge (t := 229) (t2 := 216) dX4_rings_213 rfl rfl (fun c_213 => ?_) (fun c_213 => ?_)
                    · refine ew_ic0 (t := 230) dX4_rings_229 rfl ?_
                      refine ew_istore_n (t := 231) (L' := [some (.ref 33), some (.int (nI (k + 1))), some (.int (nI j)), some (.int 0), some (.int (nI j)), some (.int (hrC T tp B))]) dX4_rings_230 rfl (Nat.le_of_ble_eq_true rfl) rfl rfl ?_
                      refine ew_aload_n (t := 232) dX4_rings_231 rfl rfl rfl ?_
                      refine ew_dup (t := 233) dX4_rings_232 rfl rfl ?_
                      refine ew_get (t := 236) (j := 8) (v := .int (nI EE)) fcX4 rfl (Nat.le_of_ble_eq_true rfl) q1029 rfl dX4_rings_233 rfl ?_
                      refine ew_iload_n (t := 237) dX4_rings_236 rfl rfl rfl ?_
                      refine ew_if_eq (t := 244) (t2 := 240) dX4_rings_237 rfl rfl (fun c_237 => ?_) (fun c_237 => ?_)
                      · refine ew_ic0 (t := 245) dX4_rings_244 rfl ?_
                        refine ew_iadd (t := 246) dX4_rings_245 rfl ?_
                        refine ew_put (t := 249) (j := 8) (fs' := MOf (upd s3 8 ((nI EE) + 0)) al) (h' := (hov h [(33, OB 4 (MOf (upd s3 8 ((nI EE) + 0)) al)), (41, IA 7 (upd ff j QV)), (42, IA 7 (upd gg j TT))])) fcX4 rfl (Nat.le_of_ble_eq_true rfl) rfl q1029 rfl rfl (Nat.le_of_ble_eq_true rfl) rfl dX4_rings_246 (hov_up rfl) rfl ?_
                        refine ew_goto (t := 54) dX4_rings_249 rfl ?_
                        refine ew_iload_n (t := 55) dX4_rings_54 rfl rfl rfl ?_
                        refine ew_if_eq (t := 252) (t2 := 58) dX4_rings_55 rfl rfl (fun _ => ?_) (fun q => absurd rfl q)
                        have hz := hZ.symm.trans ((hS _).trans (by rw [if_neg (not_not_intro c_77), if_neg (not_not_intro c_86), if_neg (not_not_intro c_133), if_pos c_213]))
                        rw [hz] at kk
                        exact kk _ _ _ _ ⟨Int32.add_zero _, e39.trans c_133, fun i h1 h2 => by first | rw [pk_un h1, e30 i h1 h2, pk_un h2, pk_un h1, e0 i h1 h2, hs.2.2 i h1 h2] | rw [pk_un h1, e30 i h1 h2, pk_un h2, pk_un h1, pk_un h1, e0 i h1 h2, hs.2.2 i h1 h2]⟩
                      · exact absurd c_237 (by decide)
                    · exact absurd (show (6 : Int32) ≤ nI (k + 1) by rw [show k = 5 by omega]; decide) c_213
                refine ew_if_le (t := 195) (t2 := 191) dX4_rings_188 rfl rfl (fun c_188 => ?_) (fun c_188 => ?_)
                · refine ew_ic0 (t := 196) dX4_rings_195 rfl ?_
                  exact J196 0 (by simp only [if_pos c_188])
                · refine ew_ic1 (t := 192) dX4_rings_191 rfl ?_
                  refine ew_goto (t := 196) dX4_rings_192 rfl ?_
                  exact J196 1 (by simp only [if_neg c_188])
              refine ew_icmp_ne (t := 163) (t2 := 159) dX4_rings_156 rfl rfl (fun c_156 => ?_) (fun c_156 => ?_)
              · refine ew_iload (t := 165) dX4_rings_163 rfl rfl ?_
                refine ew_bipush (t := 167) (v := 45) dX4_rings_165 (by decide) rfl ?_
                refine ew_icmp_ne (t := 174) (t2 := 170) dX4_rings_167 rfl rfl (fun c_167 => ?_) (fun c_167 => ?_)
                · refine ew_ic0 (t := 175) dX4_rings_174 rfl ?_
                  exact J175 0 (by simp only [if_pos c_156, if_pos c_167])
                · refine ew_ic1 (t := 171) dX4_rings_170 rfl ?_
                  refine ew_goto (t := 175) dX4_rings_171 rfl ?_
                  exact J175 1 (by simp only [if_pos c_156, if_neg (not_not_intro c_167)])
              · refine ew_ic2 (t := 160) dX4_rings_159 rfl ?_
                refine ew_goto (t := 175) dX4_rings_160 rfl ?_
                exact J175 2 (by simp only [if_neg (not_not_intro c_156)])
            · refine ew_ic0 (t := 137) dX4_rings_136 rfl ?_
              refine ew_goto (t := 144) dX4_rings_137 rfl ?_
              refine ew_istore (t := 146) (L' := [some (.ref 33), some (.int (nI k)), some (.int (nI j)), some (.int 1), some (.int (nI j)), some (.int 0)]) dX4_rings_144 (Nat.le_of_ble_eq_true rfl) rfl rfl ?_
              refine ew_aload_n (t := 147) dX4_rings_146 rfl rfl rfl ?_
              refine ew_get (t := 150) (j := 11) (v := .ref 42) fcX4 rfl (Nat.le_of_ble_eq_true rfl) q1032 rfl dX4_rings_147 rfl ?_
              refine ew_iload (t := 152) dX4_rings_150 rfl rfl ?_
              refine ew_iload (t := 154) dX4_rings_152 rfl rfl ?_
              refine ew_bipush (t := 156) (v := 43) dX4_rings_154 (by decide) rfl ?_
              refine ew_icmp_ne (t := 163) (t2 := 159) dX4_rings_156 rfl rfl (fun c_156 => ?_) (fun c_156 => ?_)
              · refine ew_iload (t := 165) dX4_rings_163 rfl rfl ?_
                refine ew_bipush (t := 167) (v := 45) dX4_rings_165 (by decide) rfl ?_
                refine ew_icmp_ne (t := 174) (t2 := 170) dX4_rings_167 rfl rfl (fun c_167 => ?_) (fun c_167 => ?_)
                · refine ew_ic0 (t := 175) dX4_rings_174 rfl ?_
                  refine ew_iast (t := 176) (j := j) (N := 7) (h' := (hov h [(33, OB 4 (MOf s3 al)), (41, IA 7 (upd ff j QV)), (42, IA 7 (upd gg j 0))])) rfl (vp_in_nI (by omega) (by omega)) (nI_clamp (by omega)) dX4_rings_175 (hov_up rfl) rfl ?_
                  refine ew_aload_n (t := 177) dX4_rings_176 rfl rfl rfl ?_
                  refine ew_dup (t := 178) dX4_rings_177 rfl rfl ?_
                  refine ew_get (t := 181) (j := 8) (v := .int (s3 8)) fcX4 rfl (Nat.le_of_ble_eq_true rfl) q1029 rfl dX4_rings_178 rfl ?_
                  refine ew_aload_n (t := 182) dX4_rings_181 rfl rfl rfl ?_
                  refine ew_get (t := 185) (j := 11) (v := .ref 42) fcX4 rfl (Nat.le_of_ble_eq_true rfl) q1032 rfl dX4_rings_182 rfl ?_
                  refine ew_iload (t := 187) dX4_rings_185 rfl rfl ?_
                  refine ew_iald (t := 188) (j := j) (N := 7) rfl (vp_in_nI (by omega) (by omega)) (nI_clamp (by omega)) dX4_rings_187 rfl ?_
                  rw [pk_us]
                  refine ew_if_le (t := 195) (t2 := 191) dX4_rings_188 rfl rfl (fun c_188 => ?_) (fun c_188 => ?_)
                  · refine ew_ic0 (t := 196) dX4_rings_195 rfl ?_
                    refine ew_iadd (t := 197) dX4_rings_196 rfl ?_
                    refine ew_put (t := 200) (j := 8) (fs' := MOf (upd s3 8 ((s3 8) + 0)) al) (h' := (hov h [(33, OB 4 (MOf (upd s3 8 ((s3 8) + 0)) al)), (41, IA 7 (upd ff j QV)), (42, IA 7 (upd gg j 0))])) fcX4 rfl (Nat.le_of_ble_eq_true rfl) rfl q1029 rfl rfl (Nat.le_of_ble_eq_true rfl) rfl dX4_rings_197 (hov_up rfl) rfl ?_
                    refine ew_iinc (t := 203) (x := (nI k)) (v := ((nI k) + 1)) (L' := [some (.ref 33), some (.int ((nI k) + 1)), some (.int (nI j)), some (.int 1), some (.int (nI j)), some (.int 0)]) dX4_rings_200 rfl rfl (Nat.le_of_ble_eq_true rfl) rfl rfl ?_
                    rw [nI_1 k]
                    refine ew_aload_n (t := 204) dX4_rings_203 rfl rfl rfl ?_
                    refine ew_get (t := 207) (j := 9) (v := .int (s3 9)) fcX4 rfl (Nat.le_of_ble_eq_true rfl) q1030 rfl dX4_rings_204 rfl ?_
                    rw [e39]
                    refine ew_if_ne (t := 229) (t2 := 210) dX4_rings_207 rfl rfl (fun c_207 => ?_) (fun c_207 => ?_)
                    · refine ew_ic0 (t := 230) dX4_rings_229 rfl ?_
                      refine ew_istore_n (t := 231) (L' := [some (.ref 33), some (.int (nI (k + 1))), some (.int (nI j)), some (.int 0), some (.int (nI j)), some (.int 0)]) dX4_rings_230 rfl (Nat.le_of_ble_eq_true rfl) rfl rfl ?_
                      refine ew_aload_n (t := 232) dX4_rings_231 rfl rfl rfl ?_
                      refine ew_dup (t := 233) dX4_rings_232 rfl rfl ?_
                      refine ew_get (t := 236) (j := 8) (v := .int ((s3 8) + 0)) fcX4 rfl (Nat.le_of_ble_eq_true rfl) q1029 rfl dX4_rings_233 rfl ?_
                      refine ew_iload_n (t := 237) dX4_rings_236 rfl rfl rfl ?_
                      refine ew_if_eq (t := 244) (t2 := 240) dX4_rings_237 rfl rfl (fun c_237 => ?_) (fun c_237 => ?_)
                      · refine ew_ic0 (t := 245) dX4_rings_244 rfl ?_
                        refine ew_iadd (t := 246) dX4_rings_245 rfl ?_
                        refine ew_put (t := 249) (j := 8) (fs' := MOf (upd s3 8 (((s3 8) + 0) + 0)) al) (h' := (hov h [(33, OB 4 (MOf (upd s3 8 (((s3 8) + 0) + 0)) al)), (41, IA 7 (upd ff j QV)), (42, IA 7 (upd gg j 0))])) fcX4 rfl (Nat.le_of_ble_eq_true rfl) rfl q1029 rfl rfl (Nat.le_of_ble_eq_true rfl) rfl dX4_rings_246 (hov_up rfl) rfl ?_
                        refine ew_goto (t := 54) dX4_rings_249 rfl ?_
                        refine ew_iload_n (t := 55) dX4_rings_54 rfl rfl rfl ?_
                        refine ew_if_eq (t := 252) (t2 := 58) dX4_rings_55 rfl rfl (fun _ => ?_) (fun q => absurd rfl q)
                        have hz := hZ.symm.trans ((hS _).trans (by rw [if_neg (not_not_intro c_77), if_neg (not_not_intro c_86), if_pos c_133]))
                        rw [hz] at kk
                        exact kk _ _ _ _ ⟨by show (s3 8 + 0 + 0 : Int32) = _; rw [e38, Int32.add_zero, Int32.add_zero], e39, fun i h1 h2 => by first | rw [pk_un h1, e30 i h1 h2, pk_un h2, pk_un h1, e0 i h1 h2, hs.2.2 i h1 h2] | rw [pk_un h1, e30 i h1 h2, pk_un h2, pk_un h1, pk_un h1, e0 i h1 h2, hs.2.2 i h1 h2]⟩
                      · exact absurd c_237 (by decide)
                    · exact absurd c_207 c_133
                  · exact absurd c_188 (by decide)
                · exact absurd c_167 (by decide)
              · exact absurd c_156 (by decide)
          · exact absurd c_106 (by decide)
        · refine ew_ic1 (t := 90) dX4_rings_89 rfl ?_
          refine ew_goto (t := 94) dX4_rings_90 rfl ?_
          refine ew_put (t := 97) (j := 9) (fs' := MOf (upd (upd s2 8 (nI A)) 9 1) al) (h' := (hov h [(33, OB 4 (MOf (upd (upd s2 8 (nI A)) 9 1) al)), (41, IA 7 ff), (42, IA 7 gg)])) fcX4 rfl (Nat.le_of_ble_eq_true rfl) rfl q1030 (by decide) (by decide) (Nat.le_of_ble_eq_true rfl) rfl dX4_rings_94 (hov_up rfl) rfl ?_
          refine ew_aload_n (t := 98) dX4_rings_97 rfl rfl rfl ?_
          refine ew_dup (t := 99) dX4_rings_98 rfl rfl ?_
          refine ew_get (t := 102) (j := 8) (v := .int (nI A)) fcX4 rfl (Nat.le_of_ble_eq_true rfl) q1029 rfl dX4_rings_99 rfl ?_
          refine ew_aload_n (t := 103) dX4_rings_102 rfl rfl rfl ?_
          refine ew_get (t := 106) (j := 9) (v := .int 1) fcX4 rfl (Nat.le_of_ble_eq_true rfl) q1030 rfl dX4_rings_103 rfl ?_
          refine ew_if_eq (t := 113) (t2 := 109) dX4_rings_106 rfl rfl (fun c_106 => ?_) (fun c_106 => ?_)
          · exact absurd c_106 (by decide)
          · refine ew_ic0 (t := 110) dX4_rings_109 rfl ?_
            refine ew_goto (t := 114) dX4_rings_110 rfl ?_
            refine ew_iadd (t := 115) dX4_rings_114 rfl ?_
            refine ew_put (t := 118) (j := 8) (fs' := MOf (upd (upd s2 8 ((nI A) + 0)) 9 1) al) (h' := (hov h [(33, OB 4 (MOf (upd (upd s2 8 ((nI A) + 0)) 9 1) al)), (41, IA 7 ff), (42, IA 7 gg)])) fcX4 rfl (Nat.le_of_ble_eq_true rfl) rfl q1029 rfl rfl (Nat.le_of_ble_eq_true rfl) rfl dX4_rings_115 (hov_up rfl) rfl ?_
            refine ew_aload_n (t := 119) dX4_rings_118 rfl rfl rfl ?_
            refine ew_get (t := 122) (j := 10) (v := .ref 41) fcX4 rfl (Nat.le_of_ble_eq_true rfl) q1031 rfl dX4_rings_119 rfl ?_
            refine ew_iload (t := 124) dX4_rings_122 rfl rfl ?_
            refine ew_aload_n (t := 125) dX4_rings_124 rfl rfl rfl ?_
            have nm := fun (l : Launch) (G : GW) => am_number (l := l) (G := G) (h := (hov h [(33, OB 4 (MOf (upd (upd s2 8 ((nI A) + 0)) 9 1) al)), (41, IA 7 ff), (42, IA 7 gg)])) (n := n) (s := (upd (upd s2 8 ((nI A) + 0)) 9 1)) (al := al) (a := A) rfl m40 ((e0 7 (by decide) (by decide)).trans ((hs.2.2 7 (by decide) (by decide)).trans h7)) (Int32.add_zero _) aA htp
            rw [show nmR T tp A ((upd (upd s2 8 ((nI A) + 0)) 9 1) 9) = (0, A, 1) from if_pos (show ¬ (1 : Int32) = 0 by decide)] at nm
            refine ew_callV (t := 128) (As := []) (nm l G) (fcX4).1 rfl (lw_V q1196 q1198 qs32 q60 q1199) rfl naX4_number dX4_rings_125 rfl (Nat.le_of_ble_eq_true rfl) (Nat.le_of_ble_eq_true rfl) (Nat.le_refl _) (Nat.le_refl _) (Nat.le_of_ble_eq_true rfl) rfl (fun r h1 n1 q => ?_)
            obtain ⟨rfl, qn, s3, rfl, e38, e39, e30⟩ := q
            replace qn := qn.symm
            subst qn
            replace e38 : s3 8 = nI A := e38
            replace e39 : s3 9 = 1 := e39
            refine EW.heap (h' := (hov h [(33, OB 4 (MOf s3 al)), (41, IA 7 ff), (42, IA 7 gg)])) (hov_mrg rfl) ?_
            refine ew_iast (t := 129) (j := j) (N := 7) (h' := (hov h [(33, OB 4 (MOf s3 al)), (41, IA 7 (upd ff j 0)), (42, IA 7 gg)])) rfl (vp_in_nI (by omega) (by omega)) (nI_clamp (by omega)) dX4_rings_128 (hov_up rfl) rfl ?_
            refine ew_aload_n (t := 130) dX4_rings_129 rfl rfl rfl ?_
            refine ew_get (t := 133) (j := 9) (v := .int (s3 9)) fcX4 rfl (Nat.le_of_ble_eq_true rfl) q1030 rfl dX4_rings_130 rfl ?_
            rw [e39]
            refine ew_if_eq (t := 140) (t2 := 136) dX4_rings_133 rfl rfl (fun c_133 => ?_) (fun c_133 => ?_)
            · exact absurd c_133 (by decide)
            · refine ew_ic0 (t := 137) dX4_rings_136 rfl ?_
              refine ew_goto (t := 144) dX4_rings_137 rfl ?_
              refine ew_istore (t := 146) (L' := [some (.ref 33), some (.int (nI k)), some (.int (nI j)), some (.int 1), some (.int (nI j)), some (.int 0)]) dX4_rings_144 (Nat.le_of_ble_eq_true rfl) rfl rfl ?_
              refine ew_aload_n (t := 147) dX4_rings_146 rfl rfl rfl ?_
              refine ew_get (t := 150) (j := 11) (v := .ref 42) fcX4 rfl (Nat.le_of_ble_eq_true rfl) q1032 rfl dX4_rings_147 rfl ?_
              refine ew_iload (t := 152) dX4_rings_150 rfl rfl ?_
              refine ew_iload (t := 154) dX4_rings_152 rfl rfl ?_
              refine ew_bipush (t := 156) (v := 43) dX4_rings_154 (by decide) rfl ?_
              refine ew_icmp_ne (t := 163) (t2 := 159) dX4_rings_156 rfl rfl (fun c_156 => ?_) (fun c_156 => ?_)
              · refine ew_iload (t := 165) dX4_rings_163 rfl rfl ?_
                refine ew_bipush (t := 167) (v := 45) dX4_rings_165 (by decide) rfl ?_
                refine ew_icmp_ne (t := 174) (t2 := 170) dX4_rings_167 rfl rfl (fun c_167 => ?_) (fun c_167 => ?_)
                · refine ew_ic0 (t := 175) dX4_rings_174 rfl ?_
                  refine ew_iast (t := 176) (j := j) (N := 7) (h' := (hov h [(33, OB 4 (MOf s3 al)), (41, IA 7 (upd ff j 0)), (42, IA 7 (upd gg j 0))])) rfl (vp_in_nI (by omega) (by omega)) (nI_clamp (by omega)) dX4_rings_175 (hov_up rfl) rfl ?_
                  refine ew_aload_n (t := 177) dX4_rings_176 rfl rfl rfl ?_
                  refine ew_dup (t := 178) dX4_rings_177 rfl rfl ?_
                  refine ew_get (t := 181) (j := 8) (v := .int (s3 8)) fcX4 rfl (Nat.le_of_ble_eq_true rfl) q1029 rfl dX4_rings_178 rfl ?_
                  refine ew_aload_n (t := 182) dX4_rings_181 rfl rfl rfl ?_
                  refine ew_get (t := 185) (j := 11) (v := .ref 42) fcX4 rfl (Nat.le_of_ble_eq_true rfl) q1032 rfl dX4_rings_182 rfl ?_
                  refine ew_iload (t := 187) dX4_rings_185 rfl rfl ?_
                  refine ew_iald (t := 188) (j := j) (N := 7) rfl (vp_in_nI (by omega) (by omega)) (nI_clamp (by omega)) dX4_rings_187 rfl ?_
                  rw [pk_us]
                  refine ew_if_le (t := 195) (t2 := 191) dX4_rings_188 rfl rfl (fun c_188 => ?_) (fun c_188 => ?_)
                  · refine ew_ic0 (t := 196) dX4_rings_195 rfl ?_
                    refine ew_iadd (t := 197) dX4_rings_196 rfl ?_
                    refine ew_put (t := 200) (j := 8) (fs' := MOf (upd s3 8 ((s3 8) + 0)) al) (h' := (hov h [(33, OB 4 (MOf (upd s3 8 ((s3 8) + 0)) al)), (41, IA 7 (upd ff j 0)), (42, IA 7 (upd gg j 0))])) fcX4 rfl (Nat.le_of_ble_eq_true rfl) rfl q1029 rfl rfl (Nat.le_of_ble_eq_true rfl) rfl dX4_rings_197 (hov_up rfl) rfl ?_
                    refine ew_iinc (t := 203) (x := (nI k)) (v := ((nI k) + 1)) (L' := [some (.ref 33), some (.int ((nI k) + 1)), some (.int (nI j)), some (.int 1), some (.int (nI j)), some (.int 0)]) dX4_rings_200 rfl rfl (Nat.le_of_ble_eq_true rfl) rfl rfl ?_
                    rw [nI_1 k]
                    refine ew_aload_n (t := 204) dX4_rings_203 rfl rfl rfl ?_
                    refine ew_get (t := 207) (j := 9) (v := .int (s3 9)) fcX4 rfl (Nat.le_of_ble_eq_true rfl) q1030 rfl dX4_rings_204 rfl ?_
                    rw [e39]
                    refine ew_if_ne (t := 229) (t2 := 210) dX4_rings_207 rfl rfl (fun c_207 => ?_) (fun c_207 => ?_)
                    · refine ew_ic0 (t := 230) dX4_rings_229 rfl ?_
                      refine ew_istore_n (t := 231) (L' := [some (.ref 33), some (.int (nI (k + 1))), some (.int (nI j)), some (.int 0), some (.int (nI j)), some (.int 0)]) dX4_rings_230 rfl (Nat.le_of_ble_eq_true rfl) rfl rfl ?_
                      refine ew_aload_n (t := 232) dX4_rings_231 rfl rfl rfl ?_
                      refine ew_dup (t := 233) dX4_rings_232 rfl rfl ?_
                      refine ew_get (t := 236) (j := 8) (v := .int ((s3 8) + 0)) fcX4 rfl (Nat.le_of_ble_eq_true rfl) q1029 rfl dX4_rings_233 rfl ?_
                      refine ew_iload_n (t := 237) dX4_rings_236 rfl rfl rfl ?_
                      refine ew_if_eq (t := 244) (t2 := 240) dX4_rings_237 rfl rfl (fun c_237 => ?_) (fun c_237 => ?_)
                      · refine ew_ic0 (t := 245) dX4_rings_244 rfl ?_
                        refine ew_iadd (t := 246) dX4_rings_245 rfl ?_
                        refine ew_put (t := 249) (j := 8) (fs' := MOf (upd s3 8 (((s3 8) + 0) + 0)) al) (h' := (hov h [(33, OB 4 (MOf (upd s3 8 (((s3 8) + 0) + 0)) al)), (41, IA 7 (upd ff j 0)), (42, IA 7 (upd gg j 0))])) fcX4 rfl (Nat.le_of_ble_eq_true rfl) rfl q1029 rfl rfl (Nat.le_of_ble_eq_true rfl) rfl dX4_rings_246 (hov_up rfl) rfl ?_
                        refine ew_goto (t := 54) dX4_rings_249 rfl ?_
                        refine ew_iload_n (t := 55) dX4_rings_54 rfl rfl rfl ?_
                        refine ew_if_eq (t := 252) (t2 := 58) dX4_rings_55 rfl rfl (fun _ => ?_) (fun q => absurd rfl q)
                        have hz := hZ.symm.trans ((hS _).trans (by rw [if_neg (not_not_intro c_77), if_pos c_86]))
                        rw [hz] at kk
                        exact kk _ _ _ _ ⟨by show (s3 8 + 0 + 0 : Int32) = _; rw [e38, Int32.add_zero, Int32.add_zero], e39, fun i h1 h2 => by first | rw [pk_un h1, e30 i h1 h2, pk_un h2, pk_un h1, e0 i h1 h2, hs.2.2 i h1 h2] | rw [pk_un h1, e30 i h1 h2, pk_un h2, pk_un h1, pk_un h1, e0 i h1 h2, hs.2.2 i h1 h2]⟩
                      · exact absurd c_237 (by decide)
                    · exact absurd c_207 (by decide)
                  · exact absurd c_188 (by decide)
                · exact absurd c_167 (by decide)
              · exact absurd c_156 (by decide)
  | succ u ih =>
    intro k lo a ff gg s' o4 o5 hk hlo ha hs hZ
    obtain ⟨j, hj, ej⟩ := dgR_h (T := T) (tp := tp) (a := a) hlo
    have ejh : rgH T tp lo a = j := by unfold rgH rgN; rw [ej]; exact nI_clamp (by omega)
    have ejn : (rgN T tp lo a).1 = nI j := ej
    obtain ⟨NP, hNP⟩ : ∃ x, x = (rgN T tp lo a).2.1 := ⟨_, rfl⟩
    obtain ⟨NW, hNW⟩ : ∃ x, x = (rgN T tp lo a).2.2 := ⟨_, rfl⟩
    obtain ⟨A, hA⟩ : ∃ x, x = rgA T tp lo a := ⟨_, rfl⟩
    obtain ⟨QV, hQV⟩ : ∃ x, x = (rgQ T tp lo a).1 := ⟨_, rfl⟩
    obtain ⟨QP, hQP⟩ : ∃ x, x = (rgQ T tp lo a).2.1 := ⟨_, rfl⟩
    obtain ⟨QW, hQW⟩ : ∃ x, x = (rgQ T tp lo a).2.2 := ⟨_, rfl⟩
    obtain ⟨B, hB⟩ : ∃ x, x = rgB T tp lo a := ⟨_, rfl⟩
    obtain ⟨TT, hTT⟩ : ∃ x, x = rgT T tp lo a := ⟨_, rfl⟩
    obtain ⟨EE, hEE⟩ : ∃ x, x = rgE T tp lo a := ⟨_, rfl⟩
    have hS : ∀ E : RGS, rgS T tp lo a k ff gg E = if ¬ NW = 0 then (NP, 1, k + 1, upd ff j 0, upd gg j 0) else if ¬ hrC T tp A = 58 then (A, 1, k + 1, upd ff j 0, upd gg j 0) else if ¬ QW = 0 then (QP, QW, k + 1, upd ff j QV, upd gg j 0) else if 6 ≤ nI (k + 1) then (EE, 0, k + 1, upd ff j QV, upd gg j TT) else if ¬ hrC T tp (hrN T tp EE) = 59 then (hrN T tp EE, 0, k + 1, upd ff j QV, upd gg j TT) else E := by
      intro E
      unfold rgS
      rw [ejh, ← hNP, ← hNW, ← hA, ← hQV, ← hQP, ← hQW, ← hTT, ← hEE]
    have aA : A ≤ tp := by rw [hA]; exact rgA_le ha htp hlo
    have aN : NP ≤ tp := by rw [hNP]; exact rgN_le ha htp hlo
    have aQ : hrC T tp A = 58 → QP ≤ tp := by intro q; rw [hA] at q; rw [hQP]; exact rgQ_le ha htp hlo q
    have aE : hrC T tp A = 58 → EE ≤ tp := by intro q; rw [hA] at q; rw [hEE]; exact rgE_le ha htp hlo q
    have nA : hrN T tp NP = A := by rw [hNP, hA]; rfl
    have nQ : nmR T tp (A + 1) 0 = rgQ T tp lo a := by rw [hA]; rfl
    have nB : hrN T tp QP = B := by rw [hQP, hB]; rfl
    have nT : TT = if ¬ hrC T tp B = 43 then (if ¬ hrC T tp B = 45 then 0 else 1) else 2 := by rw [hTT, hB]; rfl
    have nE : nI B + (if TT ≤ 0 then (0 : Int32) else 1) = nI EE := by rw [hTT, hB, hEE]; exact rgE_eq
    refine ew_iload_n (t := 55) dX4_rings_54 rfl rfl rfl ?_
    refine ew_if_eq (t := 252) (t2 := 58) dX4_rings_55 rfl rfl (fun c_55 => ?_) (fun c_55 => ?_)
    · exact absurd c_55 (by decide)
    · refine ew_aload_n (t := 59) dX4_rings_58 rfl rfl rfl ?_
      refine ew_iload_n (t := 60) dX4_rings_59 rfl rfl rfl ?_
      refine ew_ic1 (t := 61) dX4_rings_60 rfl ?_
      refine ew_iadd (t := 62) dX4_rings_61 rfl ?_
      refine ew_bipush (t := 64) (v := 6) dX4_rings_62 (by decide) rfl ?_
      have dg := fun (l : Launch) (G : GW) => am_digit (l := l) (G := G) (h := (hov h [(33, OB 4 (MOf s' al)), (41, IA 7 ff), (42, IA 7 gg)])) (n := n) (s := s') (al := al) (a := a) rfl m40 ((hs.2.2 7 (by decide) (by decide)).trans h7) hs.1 ha htp (nI lo + 1) 6
      rw [hs.2.1, show dgR T tp a 0 (nI lo + 1) 6 = rgN T tp lo a from rfl] at dg
      refine ew_callV (t := 67) (As := [_, _]) (dg l G) (fcX4).1 rfl (lw_V q1188 q1190 qs30 q60 q1191) rfl naX4_digit dX4_rings_64 rfl (Nat.le_of_ble_eq_true rfl) (Nat.le_of_ble_eq_true rfl) (Nat.le_refl _) (Nat.le_refl _) (Nat.le_of_ble_eq_true rfl) rfl (fun r h1 n1 q => ?_)
      obtain ⟨rfl, qn, s2, rfl, e8, e9, e0⟩ := q
      replace qn := qn.symm
      subst qn
      rw [← hNP] at e8
      rw [← hNW] at e9
      rw [ejn]
      refine EW.heap (h' := hov h [(33, MO s2 al), (41, IA 7 ff), (42, IA 7 gg)]) (hov_mrg rfl) ?_
      refine ew_istore (t := 69) (L' := [some (.ref 33), some (.int (nI k)), some (.int (nI lo)), some (.int 1), some (.int (nI j)), o5]) dX4_rings_67 (Nat.le_of_ble_eq_true rfl) rfl rfl ?_
      refine ew_iload (t := 71) dX4_rings_69 rfl rfl ?_
      refine ew_istore_n (t := 72) (L' := [some (.ref 33), some (.int (nI k)), some (.int (nI j)), some (.int 1), some (.int (nI j)), o5]) dX4_rings_71 rfl (Nat.le_of_ble_eq_true rfl) rfl rfl ?_
      refine ew_aload_n (t := 73) dX4_rings_72 rfl rfl rfl ?_
      refine ew_aload_n (t := 74) dX4_rings_73 rfl rfl rfl ?_
      refine ew_get (t := 77) (j := 9) (v := .int (s2 9)) fcX4 rfl (Nat.le_of_ble_eq_true rfl) q1030 rfl dX4_rings_74 rfl ?_
      rw [e9]
      refine ew_if_ne (t := 89) (t2 := 80) dX4_rings_77 rfl rfl (fun c_77 => ?_) (fun c_77 => ?_)
      · refine ew_ic1 (t := 90) dX4_rings_89 rfl ?_
        refine ew_goto (t := 94) dX4_rings_90 rfl ?_
        refine ew_put (t := 97) (j := 9) (fs' := MOf (upd s2 9 1) al) (h' := (hov h [(33, OB 4 (MOf (upd s2 9 1) al)), (41, IA 7 ff), (42, IA 7 gg)])) fcX4 rfl (Nat.le_of_ble_eq_true rfl) rfl q1030 (by decide) (by decide) (Nat.le_of_ble_eq_true rfl) rfl dX4_rings_94 (hov_up rfl) rfl ?_
        refine ew_aload_n (t := 98) dX4_rings_97 rfl rfl rfl ?_
        refine ew_dup (t := 99) dX4_rings_98 rfl rfl ?_
        refine ew_get (t := 102) (j := 8) (v := .int (s2 8)) fcX4 rfl (Nat.le_of_ble_eq_true rfl) q1029 rfl dX4_rings_99 rfl ?_
        refine ew_aload_n (t := 103) dX4_rings_102 rfl rfl rfl ?_
        refine ew_get (t := 106) (j := 9) (v := .int 1) fcX4 rfl (Nat.le_of_ble_eq_true rfl) q1030 rfl dX4_rings_103 rfl ?_
        refine ew_if_eq (t := 113) (t2 := 109) dX4_rings_106 rfl rfl (fun c_106 => ?_) (fun c_106 => ?_)
        · exact absurd c_106 (by decide)
        · refine ew_ic0 (t := 110) dX4_rings_109 rfl ?_
          refine ew_goto (t := 114) dX4_rings_110 rfl ?_
          refine ew_iadd (t := 115) dX4_rings_114 rfl ?_
          refine ew_put (t := 118) (j := 8) (fs' := MOf (upd (upd s2 8 ((s2 8) + 0)) 9 1) al) (h' := (hov h [(33, OB 4 (MOf (upd (upd s2 8 ((s2 8) + 0)) 9 1) al)), (41, IA 7 ff), (42, IA 7 gg)])) fcX4 rfl (Nat.le_of_ble_eq_true rfl) rfl q1029 rfl rfl (Nat.le_of_ble_eq_true rfl) rfl dX4_rings_115 (hov_up rfl) rfl ?_
          refine ew_aload_n (t := 119) dX4_rings_118 rfl rfl rfl ?_
          refine ew_get (t := 122) (j := 10) (v := .ref 41) fcX4 rfl (Nat.le_of_ble_eq_true rfl) q1031 rfl dX4_rings_119 rfl ?_
          refine ew_iload (t := 124) dX4_rings_122 rfl rfl ?_
          refine ew_aload_n (t := 125) dX4_rings_124 rfl rfl rfl ?_
          have nm := fun (l : Launch) (G : GW) => am_number (l := l) (G := G) (h := (hov h [(33, OB 4 (MOf (upd (upd s2 8 ((s2 8) + 0)) 9 1) al)), (41, IA 7 ff), (42, IA 7 gg)])) (n := n) (s := (upd (upd s2 8 ((s2 8) + 0)) 9 1)) (al := al) (a := NP) rfl m40 ((e0 7 (by decide) (by decide)).trans ((hs.2.2 7 (by decide) (by decide)).trans h7)) (show (s2 8 + 0 : Int32) = _ from (Int32.add_zero _).trans e8) aN htp
          rw [show nmR T tp NP ((upd (upd s2 8 ((s2 8) + 0)) 9 1) 9) = (0, NP, 1) from if_pos (show ¬ (1 : Int32) = 0 by decide)] at nm
          refine ew_callV (t := 128) (As := []) (nm l G) (fcX4).1 rfl (lw_V q1196 q1198 qs32 q60 q1199) rfl naX4_number dX4_rings_125 rfl (Nat.le_of_ble_eq_true rfl) (Nat.le_of_ble_eq_true rfl) (Nat.le_refl _) (Nat.le_refl _) (Nat.le_of_ble_eq_true rfl) rfl (fun r h1 n1 q => ?_)
          obtain ⟨rfl, qn, s3, rfl, e38, e39, e30⟩ := q
          replace qn := qn.symm
          subst qn
          replace e38 : s3 8 = nI NP := e38
          replace e39 : s3 9 = 1 := e39
          refine EW.heap (h' := (hov h [(33, OB 4 (MOf s3 al)), (41, IA 7 ff), (42, IA 7 gg)])) (hov_mrg rfl) ?_
          refine ew_iast (t := 129) (j := j) (N := 7) (h' := (hov h [(33, OB 4 (MOf s3 al)), (41, IA 7 (upd ff j 0)), (42, IA 7 gg)])) rfl (vp_in_nI (by omega) (by omega)) (nI_clamp (by omega)) dX4_rings_128 (hov_up rfl) rfl ?_
          refine ew_aload_n (t := 130) dX4_rings_129 rfl rfl rfl ?_
          refine ew_get (t := 133) (j := 9) (v := .int (s3 9)) fcX4 rfl (Nat.le_of_ble_eq_true rfl) q1030 rfl dX4_rings_130 rfl ?_
          rw [e39]
          refine ew_if_eq (t := 140) (t2 := 136) dX4_rings_133 rfl rfl (fun c_133 => ?_) (fun c_133 => ?_)
          · exact absurd c_133 (by decide)
          · refine ew_ic0 (t := 137) dX4_rings_136 rfl ?_
            refine ew_goto (t := 144) dX4_rings_137 rfl ?_
            refine ew_istore (t := 146) (L' := [some (.ref 33), some (.int (nI k)), some (.int (nI j)), some (.int 1), some (.int (nI j)), some (.int 0)]) dX4_rings_144 (Nat.le_of_ble_eq_true rfl) rfl rfl ?_
            refine ew_aload_n (t := 147) dX4_rings_146 rfl rfl rfl ?_
            refine ew_get (t := 150) (j := 11) (v := .ref 42) fcX4 rfl (Nat.le_of_ble_eq_true rfl) q1032 rfl dX4_rings_147 rfl ?_
            refine ew_iload (t := 152) dX4_rings_150 rfl rfl ?_
            refine ew_iload (t := 154) dX4_rings_152 rfl rfl ?_
            refine ew_bipush (t := 156) (v := 43) dX4_rings_154 (by decide) rfl ?_
            refine ew_icmp_ne (t := 163) (t2 := 159) dX4_rings_156 rfl rfl (fun c_156 => ?_) (fun c_156 => ?_)
            · refine ew_iload (t := 165) dX4_rings_163 rfl rfl ?_
              refine ew_bipush (t := 167) (v := 45) dX4_rings_165 (by decide) rfl ?_
              refine ew_icmp_ne (t := 174) (t2 := 170) dX4_rings_167 rfl rfl (fun c_167 => ?_) (fun c_167 => ?_)
              · refine ew_ic0 (t := 175) dX4_rings_174 rfl ?_
                refine ew_iast (t := 176) (j := j) (N := 7) (h' := (hov h [(33, OB 4 (MOf s3 al)), (41, IA 7 (upd ff j 0)), (42, IA 7 (upd gg j 0))])) rfl (vp_in_nI (by omega) (by omega)) (nI_clamp (by omega)) dX4_rings_175 (hov_up rfl) rfl ?_
                refine ew_aload_n (t := 177) dX4_rings_176 rfl rfl rfl ?_
                refine ew_dup (t := 178) dX4_rings_177 rfl rfl ?_
                refine ew_get (t := 181) (j := 8) (v := .int (s3 8)) fcX4 rfl (Nat.le_of_ble_eq_true rfl) q1029 rfl dX4_rings_178 rfl ?_
                refine ew_aload_n (t := 182) dX4_rings_181 rfl rfl rfl ?_
                refine ew_get (t := 185) (j := 11) (v := .ref 42) fcX4 rfl (Nat.le_of_ble_eq_true rfl) q1032 rfl dX4_rings_182 rfl ?_
                refine ew_iload (t := 187) dX4_rings_185 rfl rfl ?_
                refine ew_iald (t := 188) (j := j) (N := 7) rfl (vp_in_nI (by omega) (by omega)) (nI_clamp (by omega)) dX4_rings_187 rfl ?_
                rw [pk_us]
                refine ew_if_le (t := 195) (t2 := 191) dX4_rings_188 rfl rfl (fun c_188 => ?_) (fun c_188 => ?_)
                · refine ew_ic0 (t := 196) dX4_rings_195 rfl ?_
                  refine ew_iadd (t := 197) dX4_rings_196 rfl ?_
                  refine ew_put (t := 200) (j := 8) (fs' := MOf (upd s3 8 ((s3 8) + 0)) al) (h' := (hov h [(33, OB 4 (MOf (upd s3 8 ((s3 8) + 0)) al)), (41, IA 7 (upd ff j 0)), (42, IA 7 (upd gg j 0))])) fcX4 rfl (Nat.le_of_ble_eq_true rfl) rfl q1029 rfl rfl (Nat.le_of_ble_eq_true rfl) rfl dX4_rings_197 (hov_up rfl) rfl ?_
                  refine ew_iinc (t := 203) (x := (nI k)) (v := ((nI k) + 1)) (L' := [some (.ref 33), some (.int ((nI k) + 1)), some (.int (nI j)), some (.int 1), some (.int (nI j)), some (.int 0)]) dX4_rings_200 rfl rfl (Nat.le_of_ble_eq_true rfl) rfl rfl ?_
                  rw [nI_1 k]
                  refine ew_aload_n (t := 204) dX4_rings_203 rfl rfl rfl ?_
                  refine ew_get (t := 207) (j := 9) (v := .int (s3 9)) fcX4 rfl (Nat.le_of_ble_eq_true rfl) q1030 rfl dX4_rings_204 rfl ?_
                  rw [e39]
                  refine ew_if_ne (t := 229) (t2 := 210) dX4_rings_207 rfl rfl (fun c_207 => ?_) (fun c_207 => ?_)
                  · refine ew_ic0 (t := 230) dX4_rings_229 rfl ?_
                    refine ew_istore_n (t := 231) (L' := [some (.ref 33), some (.int (nI (k + 1))), some (.int (nI j)), some (.int 0), some (.int (nI j)), some (.int 0)]) dX4_rings_230 rfl (Nat.le_of_ble_eq_true rfl) rfl rfl ?_
                    refine ew_aload_n (t := 232) dX4_rings_231 rfl rfl rfl ?_
                    refine ew_dup (t := 233) dX4_rings_232 rfl rfl ?_
                    refine ew_get (t := 236) (j := 8) (v := .int ((s3 8) + 0)) fcX4 rfl (Nat.le_of_ble_eq_true rfl) q1029 rfl dX4_rings_233 rfl ?_
                    refine ew_iload_n (t := 237) dX4_rings_236 rfl rfl rfl ?_
                    refine ew_if_eq (t := 244) (t2 := 240) dX4_rings_237 rfl rfl (fun c_237 => ?_) (fun c_237 => ?_)
                    · refine ew_ic0 (t := 245) dX4_rings_244 rfl ?_
                      refine ew_iadd (t := 246) dX4_rings_245 rfl ?_
                      refine ew_put (t := 249) (j := 8) (fs' := MOf (upd s3 8 (((s3 8) + 0) + 0)) al) (h' := (hov h [(33, OB 4 (MOf (upd s3 8 (((s3 8) + 0) + 0)) al)), (41, IA 7 (upd ff j 0)), (42, IA 7 (upd gg j 0))])) fcX4 rfl (Nat.le_of_ble_eq_true rfl) rfl q1029 rfl rfl (Nat.le_of_ble_eq_true rfl) rfl dX4_rings_246 (hov_up rfl) rfl ?_
                      refine ew_goto (t := 54) dX4_rings_249 rfl ?_
                      refine ew_iload_n (t := 55) dX4_rings_54 rfl rfl rfl ?_
                      refine ew_if_eq (t := 252) (t2 := 58) dX4_rings_55 rfl rfl (fun _ => ?_) (fun q => absurd rfl q)
                      have hz := hZ.symm.trans ((hS _).trans (by rw [if_pos c_77]))
                      rw [hz] at kk
                      exact kk _ _ _ _ ⟨by show (s3 8 + 0 + 0 : Int32) = _; rw [e38, Int32.add_zero, Int32.add_zero], e39, fun i h1 h2 => by first | rw [pk_un h1, e30 i h1 h2, pk_un h2, pk_un h1, e0 i h1 h2, hs.2.2 i h1 h2] | rw [pk_un h1, e30 i h1 h2, pk_un h2, pk_un h1, pk_un h1, e0 i h1 h2, hs.2.2 i h1 h2]⟩
                    · exact absurd c_237 (by decide)
                  · exact absurd c_207 (by decide)
                · exact absurd c_188 (by decide)
              · exact absurd c_167 (by decide)
            · exact absurd c_156 (by decide)
      · refine ew_aload_n (t := 81) dX4_rings_80 rfl rfl rfl ?_
        refine ew_callV (t := 84) (As := []) (am_here (h := (hov h [(41, IA 7 ff), (42, IA 7 gg)])) (s := s2) (a := NP) m40 ((e0 7 (by decide) (by decide)).trans ((hs.2.2 7 (by decide) (by decide)).trans h7)) e8 aN htp) (fcX4).1 rfl (lw_V q1192 q1194 qs31 q60 q1195) rfl naX4_here dX4_rings_81 rfl (Nat.le_of_ble_eq_true rfl) (Nat.le_of_ble_eq_true rfl) (Nat.le_refl _) (Nat.le_refl _) (Nat.le_of_ble_eq_true rfl) rfl (qi ?_)
        rw [nA]
        refine EW.heap (h' := (hov h [(33, OB 4 (MOf (upd s2 8 (nI A)) al)), (41, IA 7 ff), (42, IA 7 gg)])) rfl ?_
        refine ew_bipush (t := 86) (v := 58) dX4_rings_84 (by decide) rfl ?_
        refine ew_icmp_eq (t := 93) (t2 := 89) dX4_rings_86 rfl rfl (fun c_86 => ?_) (fun c_86 => ?_)
        · refine ew_ic0 (t := 94) dX4_rings_93 rfl ?_
          refine ew_put (t := 97) (j := 9) (fs' := MOf (upd (upd s2 8 (nI A)) 9 0) al) (h' := (hov h [(33, OB 4 (MOf (upd (upd s2 8 (nI A)) 9 0) al)), (41, IA 7 ff), (42, IA 7 gg)])) fcX4 rfl (Nat.le_of_ble_eq_true rfl) rfl q1030 (by decide) (by decide) (Nat.le_of_ble_eq_true rfl) rfl dX4_rings_94 (hov_up rfl) rfl ?_
          refine ew_aload_n (t := 98) dX4_rings_97 rfl rfl rfl ?_
          refine ew_dup (t := 99) dX4_rings_98 rfl rfl ?_
          refine ew_get (t := 102) (j := 8) (v := .int (nI A)) fcX4 rfl (Nat.le_of_ble_eq_true rfl) q1029 rfl dX4_rings_99 rfl ?_
          refine ew_aload_n (t := 103) dX4_rings_102 rfl rfl rfl ?_
          refine ew_get (t := 106) (j := 9) (v := .int 0) fcX4 rfl (Nat.le_of_ble_eq_true rfl) q1030 rfl dX4_rings_103 rfl ?_
          refine ew_if_eq (t := 113) (t2 := 109) dX4_rings_106 rfl rfl (fun c_106 => ?_) (fun c_106 => ?_)
          · refine ew_ic1 (t := 114) dX4_rings_113 rfl ?_
            refine ew_iadd (t := 115) dX4_rings_114 rfl ?_
            refine ew_put (t := 118) (j := 8) (fs' := MOf (upd (upd s2 8 ((nI A) + 1)) 9 0) al) (h' := (hov h [(33, OB 4 (MOf (upd (upd s2 8 ((nI A) + 1)) 9 0) al)), (41, IA 7 ff), (42, IA 7 gg)])) fcX4 rfl (Nat.le_of_ble_eq_true rfl) rfl q1029 rfl rfl (Nat.le_of_ble_eq_true rfl) rfl dX4_rings_115 (hov_up rfl) rfl ?_
            refine ew_aload_n (t := 119) dX4_rings_118 rfl rfl rfl ?_
            refine ew_get (t := 122) (j := 10) (v := .ref 41) fcX4 rfl (Nat.le_of_ble_eq_true rfl) q1031 rfl dX4_rings_119 rfl ?_
            refine ew_iload (t := 124) dX4_rings_122 rfl rfl ?_
            refine ew_aload_n (t := 125) dX4_rings_124 rfl rfl rfl ?_
            have nm := fun (l : Launch) (G : GW) => am_number (l := l) (G := G) (h := (hov h [(33, OB 4 (MOf (upd (upd s2 8 ((nI A) + 1)) 9 0) al)), (41, IA 7 ff), (42, IA 7 gg)])) (n := n) (s := (upd (upd s2 8 ((nI A) + 1)) 9 0)) (al := al) (a := (A + 1)) rfl m40 ((e0 7 (by decide) (by decide)).trans ((hs.2.2 7 (by decide) (by decide)).trans h7)) (nI_1 _) (hrC_lt c_86 (by decide) aA htp) htp
            rw [show nmR T tp (A + 1) ((upd (upd s2 8 ((nI A) + 1)) 9 0) 9) = rgQ T tp lo a from nQ] at nm
            refine ew_callV (t := 128) (As := []) (nm l G) (fcX4).1 rfl (lw_V q1196 q1198 qs32 q60 q1199) rfl naX4_number dX4_rings_125 rfl (Nat.le_of_ble_eq_true rfl) (Nat.le_of_ble_eq_true rfl) (Nat.le_refl _) (Nat.le_refl _) (Nat.le_of_ble_eq_true rfl) rfl (fun r h1 n1 q => ?_)
            obtain ⟨rfl, qn, s3, rfl, e38, e39, e30⟩ := q
            replace qn := qn.symm
            subst qn
            rw [← hQP] at e38
            rw [← hQW] at e39
            rw [← hQV]
            refine EW.heap (h' := (hov h [(33, OB 4 (MOf s3 al)), (41, IA 7 ff), (42, IA 7 gg)])) (hov_mrg rfl) ?_
            refine ew_iast (t := 129) (j := j) (N := 7) (h' := (hov h [(33, OB 4 (MOf s3 al)), (41, IA 7 (upd ff j QV)), (42, IA 7 gg)])) rfl (vp_in_nI (by omega) (by omega)) (nI_clamp (by omega)) dX4_rings_128 (hov_up rfl) rfl ?_
            refine ew_aload_n (t := 130) dX4_rings_129 rfl rfl rfl ?_
            refine ew_get (t := 133) (j := 9) (v := .int (s3 9)) fcX4 rfl (Nat.le_of_ble_eq_true rfl) q1030 rfl dX4_rings_130 rfl ?_
            rw [e39]
            refine ew_if_eq (t := 140) (t2 := 136) dX4_rings_133 rfl rfl (fun c_133 => ?_) (fun c_133 => ?_)
            · refine ew_aload_n (t := 141) dX4_rings_140 rfl rfl rfl ?_
              refine ew_callV (t := 144) (As := []) (am_here (h := (hov h [(41, IA 7 (upd ff j QV)), (42, IA 7 gg)])) (s := s3) (a := QP) m40 ((e30 7 (by decide) (by decide)).trans ((e0 7 (by decide) (by decide)).trans ((hs.2.2 7 (by decide) (by decide)).trans h7))) e38 (aQ c_86) htp) (fcX4).1 rfl (lw_V q1192 q1194 qs31 q60 q1195) rfl naX4_here dX4_rings_141 rfl (Nat.le_of_ble_eq_true rfl) (Nat.le_of_ble_eq_true rfl) (Nat.le_refl _) (Nat.le_refl _) (Nat.le_of_ble_eq_true rfl) rfl (qi ?_)
              rw [nB]
              refine EW.heap (h' := (hov h [(33, OB 4 (MOf (upd s3 8 (nI B)) al)), (41, IA 7 (upd ff j QV)), (42, IA 7 gg)])) rfl ?_
              refine ew_istore (t := 146) (L' := [some (.ref 33), some (.int (nI k)), some (.int (nI j)), some (.int 1), some (.int (nI j)), some (.int (hrC T tp B))]) dX4_rings_144 (Nat.le_of_ble_eq_true rfl) rfl rfl ?_
              refine ew_aload_n (t := 147) dX4_rings_146 rfl rfl rfl ?_
              refine ew_get (t := 150) (j := 11) (v := .ref 42) fcX4 rfl (Nat.le_of_ble_eq_true rfl) q1032 rfl dX4_rings_147 rfl ?_
              refine ew_iload (t := 152) dX4_rings_150 rfl rfl ?_
              refine ew_iload (t := 154) dX4_rings_152 rfl rfl ?_
              refine ew_bipush (t := 156) (v := 43) dX4_rings_154 (by decide) rfl ?_
              have J175 : ∀ (j175_0 : Int32), j175_0 = ((if ¬ (hrC T tp B) = 43 then (if ¬ (hrC T tp B) = 45 then 0 else 1) else 2) : Int32) → EW l G yX4_rings cX4_rings 6 (some .int) 3 0 0 Q 0 0 (hov h [(33, OB 4 (MOf (upd s3 8 (nI B)) al)), (41, IA 7 (upd ff j QV)), (42, IA 7 gg)]) n 175 [some (.ref 33), some (.int (nI k)), some (.int (nI j)), some (.int 1), some (.int (nI j)), some (.int (hrC T tp B))] [.int j175_0, .int (nI j), .ref 42] := by
                intro j175_0 hj175_0
                rw [hj175_0, ← nT]
                refine ew_iast (t := 176) (j := j) (N := 7) (h' := (hov h [(33, OB 4 (MOf (upd s3 8 (nI B)) al)), (41, IA 7 (upd ff j QV)), (42, IA 7 (upd gg j TT))])) rfl (vp_in_nI (by omega) (by omega)) (nI_clamp (by omega)) dX4_rings_175 (hov_up rfl) rfl ?_
                refine ew_aload_n (t := 177) dX4_rings_176 rfl rfl rfl ?_
                refine ew_dup (t := 178) dX4_rings_177 rfl rfl ?_
                refine ew_get (t := 181) (j := 8) (v := .int (nI B)) fcX4 rfl (Nat.le_of_ble_eq_true rfl) q1029 rfl dX4_rings_178 rfl ?_
                refine ew_aload_n (t := 182) dX4_rings_181 rfl rfl rfl ?_
                refine ew_get (t := 185) (j := 11) (v := .ref 42) fcX4 rfl (Nat.le_of_ble_eq_true rfl) q1032 rfl dX4_rings_182 rfl ?_
                refine ew_iload (t := 187) dX4_rings_185 rfl rfl ?_
                refine ew_iald (t := 188) (j := j) (N := 7) rfl (vp_in_nI (by omega) (by omega)) (nI_clamp (by omega)) dX4_rings_187 rfl ?_
                rw [pk_us]
                have J196 : ∀ (j196_0 : Int32), j196_0 = ((if TT ≤ 0 then 0 else 1) : Int32) → EW l G yX4_rings cX4_rings 6 (some .int) 3 0 0 Q 0 0 (hov h [(33, OB 4 (MOf (upd s3 8 (nI B)) al)), (41, IA 7 (upd ff j QV)), (42, IA 7 (upd gg j TT))]) n 196 [some (.ref 33), some (.int (nI k)), some (.int (nI j)), some (.int 1), some (.int (nI j)), some (.int (hrC T tp B))] [.int j196_0, .int (nI B), .ref 33] := by
                  intro j196_0 hj196_0
                  refine ew_iadd (t := 197) dX4_rings_196 rfl ?_
                  rw [hj196_0, nE]
                  refine ew_put (t := 200) (j := 8) (fs' := MOf (upd s3 8 (nI EE)) al) (h' := (hov h [(33, OB 4 (MOf (upd s3 8 (nI EE)) al)), (41, IA 7 (upd ff j QV)), (42, IA 7 (upd gg j TT))])) fcX4 rfl (Nat.le_of_ble_eq_true rfl) rfl q1029 rfl rfl (Nat.le_of_ble_eq_true rfl) rfl dX4_rings_197 (hov_up rfl) rfl ?_
                  refine ew_iinc (t := 203) (x := (nI k)) (v := ((nI k) + 1)) (L' := [some (.ref 33), some (.int ((nI k) + 1)), some (.int (nI j)), some (.int 1), some (.int (nI j)), some (.int (hrC T tp B))]) dX4_rings_200 rfl rfl (Nat.le_of_ble_eq_true rfl) rfl rfl ?_
                  rw [nI_1 k]
                  refine ew_aload_n (t := 204) dX4_rings_203 rfl rfl rfl ?_
                  refine ew_get (t := 207) (j := 9) (v := .int (s3 9)) fcX4 rfl (Nat.le_of_ble_eq_true rfl) q1030 rfl dX4_rings_204 rfl ?_
                  rw [e39]
                  refine ew_if_ne (t := 229) (t2 := 210) dX4_rings_207 rfl rfl (fun c_207 => ?_) (fun c_207 => ?_)
                  · exact absurd c_133 c_207
                  · refine ew_iload_n (t := 211) dX4_rings_210 rfl rfl rfl ?_
                    refine ew_bipush (t := 213) (v := 6) dX4_rings_211 (by decide) rfl ?_
                    refine ew_icmp_ge (t := 229) (t2 := 216) dX4_rings_213 rfl rfl (fun c_213 => ?_) (fun c_213 => ?_)
                    · refine ew_ic0 (t := 230) dX4_rings_229 rfl ?_
                      refine ew_istore_n (t := 231) (L' := [some (.ref 33), some (.int (nI (k + 1))), some (.int (nI j)), some (.int 0), some (.int (nI j)), some (.int (hrC T tp B))]) dX4_rings_230 rfl (Nat.le_of_ble_eq_true rfl) rfl rfl ?_
                      refine ew_aload_n (t := 232) dX4_rings_231 rfl rfl rfl ?_
                      refine ew_dup (t := 233) dX4_rings_232 rfl rfl ?_
                      refine ew_get (t := 236) (j := 8) (v := .int (nI EE)) fcX4 rfl (Nat.le_of_ble_eq_true rfl) q1029 rfl dX4_rings_233 rfl ?_
                      refine ew_iload_n (t := 237) dX4_rings_236 rfl rfl rfl ?_
                      refine ew_if_eq (t := 244) (t2 := 240) dX4_rings_237 rfl rfl (fun c_237 => ?_) (fun c_237 => ?_)
                      · refine ew_ic0 (t := 245) dX4_rings_244 rfl ?_
                        refine ew_iadd (t := 246) dX4_rings_245 rfl ?_
                        refine ew_put (t := 249) (j := 8) (fs' := MOf (upd s3 8 ((nI EE) + 0)) al) (h' := (hov h [(33, OB 4 (MOf (upd s3 8 ((nI EE) + 0)) al)), (41, IA 7 (upd ff j QV)), (42, IA 7 (upd gg j TT))])) fcX4 rfl (Nat.le_of_ble_eq_true rfl) rfl q1029 rfl rfl (Nat.le_of_ble_eq_true rfl) rfl dX4_rings_246 (hov_up rfl) rfl ?_
                        refine ew_goto (t := 54) dX4_rings_249 rfl ?_
                        refine ew_iload_n (t := 55) dX4_rings_54 rfl rfl rfl ?_
                        refine ew_if_eq (t := 252) (t2 := 58) dX4_rings_55 rfl rfl (fun _ => ?_) (fun q => absurd rfl q)
                        have hz := hZ.symm.trans ((hS _).trans (by rw [if_neg (not_not_intro c_77), if_neg (not_not_intro c_86), if_neg (not_not_intro c_133), if_pos c_213]))
                        rw [hz] at kk
                        exact kk _ _ _ _ ⟨Int32.add_zero _, e39.trans c_133, fun i h1 h2 => by first | rw [pk_un h1, e30 i h1 h2, pk_un h2, pk_un h1, e0 i h1 h2, hs.2.2 i h1 h2] | rw [pk_un h1, e30 i h1 h2, pk_un h2, pk_un h1, pk_un h1, e0 i h1 h2, hs.2.2 i h1 h2]⟩
                      · exact absurd c_237 (by decide)
                    · refine ew_aload_n (t := 217) dX4_rings_216 rfl rfl rfl ?_
                      refine ew_callV (t := 220) (As := []) (am_here (h := (hov h [(41, IA 7 (upd ff j QV)), (42, IA 7 (upd gg j TT))])) (s := (upd s3 8 (nI EE))) (a := EE) m40 ((e30 7 (by decide) (by decide)).trans ((e0 7 (by decide) (by decide)).trans ((hs.2.2 7 (by decide) (by decide)).trans h7))) rfl (aE c_86) htp) (fcX4).1 rfl (lw_V q1192 q1194 qs31 q60 q1195) rfl naX4_here dX4_rings_217 rfl (Nat.le_of_ble_eq_true rfl) (Nat.le_of_ble_eq_true rfl) (Nat.le_refl _) (Nat.le_refl _) (Nat.le_of_ble_eq_true rfl) rfl (qi ?_)
                      refine EW.heap (h' := (hov h [(33, OB 4 (MOf (upd s3 8 (nI (hrN T tp EE))) al)), (41, IA 7 (upd ff j QV)), (42, IA 7 (upd gg j TT))])) (by rw [upd_upd]; rfl) ?_
                      refine ew_bipush (t := 222) (v := 59) dX4_rings_220 (by decide) rfl ?_
                      refine ew_icmp_ne (t := 229) (t2 := 225) dX4_rings_222 rfl rfl (fun c_222 => ?_) (fun c_222 => ?_)
                      · refine ew_ic0 (t := 230) dX4_rings_229 rfl ?_
                        refine ew_istore_n (t := 231) (L' := [some (.ref 33), some (.int (nI (k + 1))), some (.int (nI j)), some (.int 0), some (.int (nI j)), some (.int (hrC T tp B))]) dX4_rings_230 rfl (Nat.le_of_ble_eq_true rfl) rfl rfl ?_
                        refine ew_aload_n (t := 232) dX4_rings_231 rfl rfl rfl ?_
                        refine ew_dup (t := 233) dX4_rings_232 rfl rfl ?_
                        refine ew_get (t := 236) (j := 8) (v := .int (nI (hrN T tp EE))) fcX4 rfl (Nat.le_of_ble_eq_true rfl) q1029 rfl dX4_rings_233 rfl ?_
                        refine ew_iload_n (t := 237) dX4_rings_236 rfl rfl rfl ?_
                        refine ew_if_eq (t := 244) (t2 := 240) dX4_rings_237 rfl rfl (fun c_237 => ?_) (fun c_237 => ?_)
                        · refine ew_ic0 (t := 245) dX4_rings_244 rfl ?_
                          refine ew_iadd (t := 246) dX4_rings_245 rfl ?_
                          refine ew_put (t := 249) (j := 8) (fs' := MOf (upd s3 8 ((nI (hrN T tp EE)) + 0)) al) (h' := (hov h [(33, OB 4 (MOf (upd s3 8 ((nI (hrN T tp EE)) + 0)) al)), (41, IA 7 (upd ff j QV)), (42, IA 7 (upd gg j TT))])) fcX4 rfl (Nat.le_of_ble_eq_true rfl) rfl q1029 rfl rfl (Nat.le_of_ble_eq_true rfl) rfl dX4_rings_246 (hov_up rfl) rfl ?_
                          refine ew_goto (t := 54) dX4_rings_249 rfl ?_
                          refine ew_iload_n (t := 55) dX4_rings_54 rfl rfl rfl ?_
                          refine ew_if_eq (t := 252) (t2 := 58) dX4_rings_55 rfl rfl (fun _ => ?_) (fun q => absurd rfl q)
                          have hz := hZ.symm.trans ((hS _).trans (by rw [if_neg (not_not_intro c_77), if_neg (not_not_intro c_86), if_neg (not_not_intro c_133), if_neg c_213, if_pos c_222]))
                          rw [hz] at kk
                          exact kk _ _ _ _ ⟨Int32.add_zero _, e39.trans c_133, fun i h1 h2 => by first | rw [pk_un h1, e30 i h1 h2, pk_un h2, pk_un h1, e0 i h1 h2, hs.2.2 i h1 h2] | rw [pk_un h1, e30 i h1 h2, pk_un h2, pk_un h1, pk_un h1, e0 i h1 h2, hs.2.2 i h1 h2]⟩
                        · exact absurd c_237 (by decide)
                      · refine ew_ic1 (t := 226) dX4_rings_225 rfl ?_
                        refine ew_goto (t := 230) dX4_rings_226 rfl ?_
                        refine ew_istore_n (t := 231) (L' := [some (.ref 33), some (.int (nI (k + 1))), some (.int (nI j)), some (.int 1), some (.int (nI j)), some (.int (hrC T tp B))]) dX4_rings_230 rfl (Nat.le_of_ble_eq_true rfl) rfl rfl ?_
                        refine ew_aload_n (t := 232) dX4_rings_231 rfl rfl rfl ?_
                        refine ew_dup (t := 233) dX4_rings_232 rfl rfl ?_
                        refine ew_get (t := 236) (j := 8) (v := .int (nI (hrN T tp EE))) fcX4 rfl (Nat.le_of_ble_eq_true rfl) q1029 rfl dX4_rings_233 rfl ?_
                        refine ew_iload_n (t := 237) dX4_rings_236 rfl rfl rfl ?_
                        refine ew_if_eq (t := 244) (t2 := 240) dX4_rings_237 rfl rfl (fun c_237 => ?_) (fun c_237 => ?_)
                        · exact absurd c_237 (by decide)
                        · refine ew_ic1 (t := 241) dX4_rings_240 rfl ?_
                          refine ew_goto (t := 245) dX4_rings_241 rfl ?_
                          refine ew_iadd (t := 246) dX4_rings_245 rfl ?_
                          refine ew_put (t := 249) (j := 8) (fs' := MOf (upd s3 8 ((nI (hrN T tp EE)) + 1)) al) (h' := (hov h [(33, OB 4 (MOf (upd s3 8 ((nI (hrN T tp EE)) + 1)) al)), (41, IA 7 (upd ff j QV)), (42, IA 7 (upd gg j TT))])) fcX4 rfl (Nat.le_of_ble_eq_true rfl) rfl q1029 rfl rfl (Nat.le_of_ble_eq_true rfl) rfl dX4_rings_246 (hov_up rfl) rfl ?_
                          refine ew_goto (t := 54) dX4_rings_249 rfl ?_
                          exact ih (k + 1) j (hrN T tp EE + 1) _ _ _ _ _ (by omega) hj (hrC_lt c_222 (by decide) (hrN_le (aE c_86)).2 htp) ⟨nI_1 _, e39.trans c_133, fun i h1 h2 => by first | rw [pk_un h1, e30 i h1 h2, pk_un h2, pk_un h1, e0 i h1 h2, hs.2.2 i h1 h2] | rw [pk_un h1, e30 i h1 h2, pk_un h2, pk_un h1, pk_un h1, e0 i h1 h2, hs.2.2 i h1 h2]⟩ (by rw [← hZ, rgR.eq_2, hS, if_neg (not_not_intro c_77), if_neg (not_not_intro c_86), if_neg (not_not_intro c_133), if_neg c_213, if_neg (not_not_intro c_222), ejh, ← hEE, ← hQV, ← hTT])
                refine ew_if_le (t := 195) (t2 := 191) dX4_rings_188 rfl rfl (fun c_188 => ?_) (fun c_188 => ?_)
                · refine ew_ic0 (t := 196) dX4_rings_195 rfl ?_
                  exact J196 0 (by simp only [if_pos c_188])
                · refine ew_ic1 (t := 192) dX4_rings_191 rfl ?_
                  refine ew_goto (t := 196) dX4_rings_192 rfl ?_
                  exact J196 1 (by simp only [if_neg c_188])
              refine ew_icmp_ne (t := 163) (t2 := 159) dX4_rings_156 rfl rfl (fun c_156 => ?_) (fun c_156 => ?_)
              · refine ew_iload (t := 165) dX4_rings_163 rfl rfl ?_
                refine ew_bipush (t := 167) (v := 45) dX4_rings_165 (by decide) rfl ?_
                refine ew_icmp_ne (t := 174) (t2 := 170) dX4_rings_167 rfl rfl (fun c_167 => ?_) (fun c_167 => ?_)
                · refine ew_ic0 (t := 175) dX4_rings_174 rfl ?_
                  exact J175 0 (by simp only [if_pos c_156, if_pos c_167])
                · refine ew_ic1 (t := 171) dX4_rings_170 rfl ?_
                  refine ew_goto (t := 175) dX4_rings_171 rfl ?_
                  exact J175 1 (by simp only [if_pos c_156, if_neg (not_not_intro c_167)])
              · refine ew_ic2 (t := 160) dX4_rings_159 rfl ?_
                refine ew_goto (t := 175) dX4_rings_160 rfl ?_
                exact J175 2 (by simp only [if_neg (not_not_intro c_156)])
            · refine ew_ic0 (t := 137) dX4_rings_136 rfl ?_
              refine ew_goto (t := 144) dX4_rings_137 rfl ?_
              refine ew_istore (t := 146) (L' := [some (.ref 33), some (.int (nI k)), some (.int (nI j)), some (.int 1), some (.int (nI j)), some (.int 0)]) dX4_rings_144 (Nat.le_of_ble_eq_true rfl) rfl rfl ?_
              refine ew_aload_n (t := 147) dX4_rings_146 rfl rfl rfl ?_
              refine ew_get (t := 150) (j := 11) (v := .ref 42) fcX4 rfl (Nat.le_of_ble_eq_true rfl) q1032 rfl dX4_rings_147 rfl ?_
              refine ew_iload (t := 152) dX4_rings_150 rfl rfl ?_
              refine ew_iload (t := 154) dX4_rings_152 rfl rfl ?_
              refine ew_bipush (t := 156) (v := 43) dX4_rings_154 (by decide) rfl ?_
              refine ew_icmp_ne (t := 163) (t2 := 159) dX4_rings_156 rfl rfl (fun c_156 => ?_) (fun c_156 => ?_)
              · refine ew_iload (t := 165) dX4_rings_163 rfl rfl ?_
                refine ew_bipush (t := 167) (v := 45) dX4_rings_165 (by decide) rfl ?_
                refine ew_icmp_ne (t := 174) (t2 := 170) dX4_rings_167 rfl rfl (fun c_167 => ?_) (fun c_167 => ?_)
                · refine ew_ic0 (t := 175) dX4_rings_174 rfl ?_
                  refine ew_iast (t := 176) (j := j) (N := 7) (h' := (hov h [(33, OB 4 (MOf s3 al)), (41, IA 7 (upd ff j QV)), (42, IA 7 (upd gg j 0))])) rfl (vp_in_nI (by omega) (by omega)) (nI_clamp (by omega)) dX4_rings_175 (hov_up rfl) rfl ?_
                  refine ew_aload_n (t := 177) dX4_rings_176 rfl rfl rfl ?_
                  refine ew_dup (t := 178) dX4_rings_177 rfl rfl ?_
                  refine ew_get (t := 181) (j := 8) (v := .int (s3 8)) fcX4 rfl (Nat.le_of_ble_eq_true rfl) q1029 rfl dX4_rings_178 rfl ?_
                  refine ew_aload_n (t := 182) dX4_rings_181 rfl rfl rfl ?_
                  refine ew_get (t := 185) (j := 11) (v := .ref 42) fcX4 rfl (Nat.le_of_ble_eq_true rfl) q1032 rfl dX4_rings_182 rfl ?_
                  refine ew_iload (t := 187) dX4_rings_185 rfl rfl ?_
                  refine ew_iald (t := 188) (j := j) (N := 7) rfl (vp_in_nI (by omega) (by omega)) (nI_clamp (by omega)) dX4_rings_187 rfl ?_
                  rw [pk_us]
                  refine ew_if_le (t := 195) (t2 := 191) dX4_rings_188 rfl rfl (fun c_188 => ?_) (fun c_188 => ?_)
                  · refine ew_ic0 (t := 196) dX4_rings_195 rfl ?_
                    refine ew_iadd (t := 197) dX4_rings_196 rfl ?_
                    refine ew_put (t := 200) (j := 8) (fs' := MOf (upd s3 8 ((s3 8) + 0)) al) (h' := (hov h [(33, OB 4 (MOf (upd s3 8 ((s3 8) + 0)) al)), (41, IA 7 (upd ff j QV)), (42, IA 7 (upd gg j 0))])) fcX4 rfl (Nat.le_of_ble_eq_true rfl) rfl q1029 rfl rfl (Nat.le_of_ble_eq_true rfl) rfl dX4_rings_197 (hov_up rfl) rfl ?_
                    refine ew_iinc (t := 203) (x := (nI k)) (v := ((nI k) + 1)) (L' := [some (.ref 33), some (.int ((nI k) + 1)), some (.int (nI j)), some (.int 1), some (.int (nI j)), some (.int 0)]) dX4_rings_200 rfl rfl (Nat.le_of_ble_eq_true rfl) rfl rfl ?_
                    rw [nI_1 k]
                    refine ew_aload_n (t := 204) dX4_rings_203 rfl rfl rfl ?_
                    refine ew_get (t := 207) (j := 9) (v := .int (s3 9)) fcX4 rfl (Nat.le_of_ble_eq_true rfl) q1030 rfl dX4_rings_204 rfl ?_
                    rw [e39]
                    refine ew_if_ne (t := 229) (t2 := 210) dX4_rings_207 rfl rfl (fun c_207 => ?_) (fun c_207 => ?_)
                    · refine ew_ic0 (t := 230) dX4_rings_229 rfl ?_
                      refine ew_istore_n (t := 231) (L' := [some (.ref 33), some (.int (nI (k + 1))), some (.int (nI j)), some (.int 0), some (.int (nI j)), some (.int 0)]) dX4_rings_230 rfl (Nat.le_of_ble_eq_true rfl) rfl rfl ?_
                      refine ew_aload_n (t := 232) dX4_rings_231 rfl rfl rfl ?_
                      refine ew_dup (t := 233) dX4_rings_232 rfl rfl ?_
                      refine ew_get (t := 236) (j := 8) (v := .int ((s3 8) + 0)) fcX4 rfl (Nat.le_of_ble_eq_true rfl) q1029 rfl dX4_rings_233 rfl ?_
                      refine ew_iload_n (t := 237) dX4_rings_236 rfl rfl rfl ?_
                      refine ew_if_eq (t := 244) (t2 := 240) dX4_rings_237 rfl rfl (fun c_237 => ?_) (fun c_237 => ?_)
                      · refine ew_ic0 (t := 245) dX4_rings_244 rfl ?_
                        refine ew_iadd (t := 246) dX4_rings_245 rfl ?_
                        refine ew_put (t := 249) (j := 8) (fs' := MOf (upd s3 8 (((s3 8) + 0) + 0)) al) (h' := (hov h [(33, OB 4 (MOf (upd s3 8 (((s3 8) + 0) + 0)) al)), (41, IA 7 (upd ff j QV)), (42, IA 7 (upd gg j 0))])) fcX4 rfl (Nat.le_of_ble_eq_true rfl) rfl q1029 rfl rfl (Nat.le_of_ble_eq_true rfl) rfl dX4_rings_246 (hov_up rfl) rfl ?_
                        refine ew_goto (t := 54) dX4_rings_249 rfl ?_
                        refine ew_iload_n (t := 55) dX4_rings_54 rfl rfl rfl ?_
                        refine ew_if_eq (t := 252) (t2 := 58) dX4_rings_55 rfl rfl (fun _ => ?_) (fun q => absurd rfl q)
                        have hz := hZ.symm.trans ((hS _).trans (by rw [if_neg (not_not_intro c_77), if_neg (not_not_intro c_86), if_pos c_133]))
                        rw [hz] at kk
                        exact kk _ _ _ _ ⟨by show (s3 8 + 0 + 0 : Int32) = _; rw [e38, Int32.add_zero, Int32.add_zero], e39, fun i h1 h2 => by first | rw [pk_un h1, e30 i h1 h2, pk_un h2, pk_un h1, e0 i h1 h2, hs.2.2 i h1 h2] | rw [pk_un h1, e30 i h1 h2, pk_un h2, pk_un h1, pk_un h1, e0 i h1 h2, hs.2.2 i h1 h2]⟩
                      · exact absurd c_237 (by decide)
                    · exact absurd c_207 c_133
                  · exact absurd c_188 (by decide)
                · exact absurd c_167 (by decide)
              · exact absurd c_156 (by decide)
          · exact absurd c_106 (by decide)
        · refine ew_ic1 (t := 90) dX4_rings_89 rfl ?_
          refine ew_goto (t := 94) dX4_rings_90 rfl ?_
          refine ew_put (t := 97) (j := 9) (fs' := MOf (upd (upd s2 8 (nI A)) 9 1) al) (h' := (hov h [(33, OB 4 (MOf (upd (upd s2 8 (nI A)) 9 1) al)), (41, IA 7 ff), (42, IA 7 gg)])) fcX4 rfl (Nat.le_of_ble_eq_true rfl) rfl q1030 (by decide) (by decide) (Nat.le_of_ble_eq_true rfl) rfl dX4_rings_94 (hov_up rfl) rfl ?_
          refine ew_aload_n (t := 98) dX4_rings_97 rfl rfl rfl ?_
          refine ew_dup (t := 99) dX4_rings_98 rfl rfl ?_
          refine ew_get (t := 102) (j := 8) (v := .int (nI A)) fcX4 rfl (Nat.le_of_ble_eq_true rfl) q1029 rfl dX4_rings_99 rfl ?_
          refine ew_aload_n (t := 103) dX4_rings_102 rfl rfl rfl ?_
          refine ew_get (t := 106) (j := 9) (v := .int 1) fcX4 rfl (Nat.le_of_ble_eq_true rfl) q1030 rfl dX4_rings_103 rfl ?_
          refine ew_if_eq (t := 113) (t2 := 109) dX4_rings_106 rfl rfl (fun c_106 => ?_) (fun c_106 => ?_)
          · exact absurd c_106 (by decide)
          · refine ew_ic0 (t := 110) dX4_rings_109 rfl ?_
            refine ew_goto (t := 114) dX4_rings_110 rfl ?_
            refine ew_iadd (t := 115) dX4_rings_114 rfl ?_
            refine ew_put (t := 118) (j := 8) (fs' := MOf (upd (upd s2 8 ((nI A) + 0)) 9 1) al) (h' := (hov h [(33, OB 4 (MOf (upd (upd s2 8 ((nI A) + 0)) 9 1) al)), (41, IA 7 ff), (42, IA 7 gg)])) fcX4 rfl (Nat.le_of_ble_eq_true rfl) rfl q1029 rfl rfl (Nat.le_of_ble_eq_true rfl) rfl dX4_rings_115 (hov_up rfl) rfl ?_
            refine ew_aload_n (t := 119) dX4_rings_118 rfl rfl rfl ?_
            refine ew_get (t := 122) (j := 10) (v := .ref 41) fcX4 rfl (Nat.le_of_ble_eq_true rfl) q1031 rfl dX4_rings_119 rfl ?_
            refine ew_iload (t := 124) dX4_rings_122 rfl rfl ?_
            refine ew_aload_n (t := 125) dX4_rings_124 rfl rfl rfl ?_
            have nm := fun (l : Launch) (G : GW) => am_number (l := l) (G := G) (h := (hov h [(33, OB 4 (MOf (upd (upd s2 8 ((nI A) + 0)) 9 1) al)), (41, IA 7 ff), (42, IA 7 gg)])) (n := n) (s := (upd (upd s2 8 ((nI A) + 0)) 9 1)) (al := al) (a := A) rfl m40 ((e0 7 (by decide) (by decide)).trans ((hs.2.2 7 (by decide) (by decide)).trans h7)) (Int32.add_zero _) aA htp
            rw [show nmR T tp A ((upd (upd s2 8 ((nI A) + 0)) 9 1) 9) = (0, A, 1) from if_pos (show ¬ (1 : Int32) = 0 by decide)] at nm
            refine ew_callV (t := 128) (As := []) (nm l G) (fcX4).1 rfl (lw_V q1196 q1198 qs32 q60 q1199) rfl naX4_number dX4_rings_125 rfl (Nat.le_of_ble_eq_true rfl) (Nat.le_of_ble_eq_true rfl) (Nat.le_refl _) (Nat.le_refl _) (Nat.le_of_ble_eq_true rfl) rfl (fun r h1 n1 q => ?_)
            obtain ⟨rfl, qn, s3, rfl, e38, e39, e30⟩ := q
            replace qn := qn.symm
            subst qn
            replace e38 : s3 8 = nI A := e38
            replace e39 : s3 9 = 1 := e39
            refine EW.heap (h' := (hov h [(33, OB 4 (MOf s3 al)), (41, IA 7 ff), (42, IA 7 gg)])) (hov_mrg rfl) ?_
            refine ew_iast (t := 129) (j := j) (N := 7) (h' := (hov h [(33, OB 4 (MOf s3 al)), (41, IA 7 (upd ff j 0)), (42, IA 7 gg)])) rfl (vp_in_nI (by omega) (by omega)) (nI_clamp (by omega)) dX4_rings_128 (hov_up rfl) rfl ?_
            refine ew_aload_n (t := 130) dX4_rings_129 rfl rfl rfl ?_
            refine ew_get (t := 133) (j := 9) (v := .int (s3 9)) fcX4 rfl (Nat.le_of_ble_eq_true rfl) q1030 rfl dX4_rings_130 rfl ?_
            rw [e39]
            refine ew_if_eq (t := 140) (t2 := 136) dX4_rings_133 rfl rfl (fun c_133 => ?_) (fun c_133 => ?_)
            · exact absurd c_133 (by decide)
            · refine ew_ic0 (t := 137) dX4_rings_136 rfl ?_
              refine ew_goto (t := 144) dX4_rings_137 rfl ?_
              refine ew_istore (t := 146) (L' := [some (.ref 33), some (.int (nI k)), some (.int (nI j)), some (.int 1), some (.int (nI j)), some (.int 0)]) dX4_rings_144 (Nat.le_of_ble_eq_true rfl) rfl rfl ?_
              refine ew_aload_n (t := 147) dX4_rings_146 rfl rfl rfl ?_
              refine ew_get (t := 150) (j := 11) (v := .ref 42) fcX4 rfl (Nat.le_of_ble_eq_true rfl) q1032 rfl dX4_rings_147 rfl ?_
              refine ew_iload (t := 152) dX4_rings_150 rfl rfl ?_
              refine ew_iload (t := 154) dX4_rings_152 rfl rfl ?_
              refine ew_bipush (t := 156) (v := 43) dX4_rings_154 (by decide) rfl ?_
              refine ew_icmp_ne (t := 163) (t2 := 159) dX4_rings_156 rfl rfl (fun c_156 => ?_) (fun c_156 => ?_)
              · refine ew_iload (t := 165) dX4_rings_163 rfl rfl ?_
                refine ew_bipush (t := 167) (v := 45) dX4_rings_165 (by decide) rfl ?_
                refine ew_icmp_ne (t := 174) (t2 := 170) dX4_rings_167 rfl rfl (fun c_167 => ?_) (fun c_167 => ?_)
                · refine ew_ic0 (t := 175) dX4_rings_174 rfl ?_
                  refine ew_iast (t := 176) (j := j) (N := 7) (h' := (hov h [(33, OB 4 (MOf s3 al)), (41, IA 7 (upd ff j 0)), (42, IA 7 (upd gg j 0))])) rfl (vp_in_nI (by omega) (by omega)) (nI_clamp (by omega)) dX4_rings_175 (hov_up rfl) rfl ?_
                  refine ew_aload_n (t := 177) dX4_rings_176 rfl rfl rfl ?_
                  refine ew_dup (t := 178) dX4_rings_177 rfl rfl ?_
                  refine ew_get (t := 181) (j := 8) (v := .int (s3 8)) fcX4 rfl (Nat.le_of_ble_eq_true rfl) q1029 rfl dX4_rings_178 rfl ?_
                  refine ew_aload_n (t := 182) dX4_rings_181 rfl rfl rfl ?_
                  refine ew_get (t := 185) (j := 11) (v := .ref 42) fcX4 rfl (Nat.le_of_ble_eq_true rfl) q1032 rfl dX4_rings_182 rfl ?_
                  refine ew_iload (t := 187) dX4_rings_185 rfl rfl ?_
                  refine ew_iald (t := 188) (j := j) (N := 7) rfl (vp_in_nI (by omega) (by omega)) (nI_clamp (by omega)) dX4_rings_187 rfl ?_
                  rw [pk_us]
                  refine ew_if_le (t := 195) (t2 := 191) dX4_rings_188 rfl rfl (fun c_188 => ?_) (fun c_188 => ?_)
                  · refine ew_ic0 (t := 196) dX4_rings_195 rfl ?_
                    refine ew_iadd (t := 197) dX4_rings_196 rfl ?_
                    refine ew_put (t := 200) (j := 8) (fs' := MOf (upd s3 8 ((s3 8) + 0)) al) (h' := (hov h [(33, OB 4 (MOf (upd s3 8 ((s3 8) + 0)) al)), (41, IA 7 (upd ff j 0)), (42, IA 7 (upd gg j 0))])) fcX4 rfl (Nat.le_of_ble_eq_true rfl) rfl q1029 rfl rfl (Nat.le_of_ble_eq_true rfl) rfl dX4_rings_197 (hov_up rfl) rfl ?_
                    refine ew_iinc (t := 203) (x := (nI k)) (v := ((nI k) + 1)) (L' := [some (.ref 33), some (.int ((nI k) + 1)), some (.int (nI j)), some (.int 1), some (.int (nI j)), some (.int 0)]) dX4_rings_200 rfl rfl (Nat.le_of_ble_eq_true rfl) rfl rfl ?_
                    rw [nI_1 k]
                    refine ew_aload_n (t := 204) dX4_rings_203 rfl rfl rfl ?_
                    refine ew_get (t := 207) (j := 9) (v := .int (s3 9)) fcX4 rfl (Nat.le_of_ble_eq_true rfl) q1030 rfl dX4_rings_204 rfl ?_
                    rw [e39]
                    refine ew_if_ne (t := 229) (t2 := 210) dX4_rings_207 rfl rfl (fun c_207 => ?_) (fun c_207 => ?_)
                    · refine ew_ic0 (t := 230) dX4_rings_229 rfl ?_
                      refine ew_istore_n (t := 231) (L' := [some (.ref 33), some (.int (nI (k + 1))), some (.int (nI j)), some (.int 0), some (.int (nI j)), some (.int 0)]) dX4_rings_230 rfl (Nat.le_of_ble_eq_true rfl) rfl rfl ?_
                      refine ew_aload_n (t := 232) dX4_rings_231 rfl rfl rfl ?_
                      refine ew_dup (t := 233) dX4_rings_232 rfl rfl ?_
                      refine ew_get (t := 236) (j := 8) (v := .int ((s3 8) + 0)) fcX4 rfl (Nat.le_of_ble_eq_true rfl) q1029 rfl dX4_rings_233 rfl ?_
                      refine ew_iload_n (t := 237) dX4_rings_236 rfl rfl rfl ?_
                      refine ew_if_eq (t := 244) (t2 := 240) dX4_rings_237 rfl rfl (fun c_237 => ?_) (fun c_237 => ?_)
                      · refine ew_ic0 (t := 245) dX4_rings_244 rfl ?_
                        refine ew_iadd (t := 246) dX4_rings_245 rfl ?_
                        refine ew_put (t := 249) (j := 8) (fs' := MOf (upd s3 8 (((s3 8) + 0) + 0)) al) (h' := (hov h [(33, OB 4 (MOf (upd s3 8 (((s3 8) + 0) + 0)) al)), (41, IA 7 (upd ff j 0)), (42, IA 7 (upd gg j 0))])) fcX4 rfl (Nat.le_of_ble_eq_true rfl) rfl q1029 rfl rfl (Nat.le_of_ble_eq_true rfl) rfl dX4_rings_246 (hov_up rfl) rfl ?_
                        refine ew_goto (t := 54) dX4_rings_249 rfl ?_
                        refine ew_iload_n (t := 55) dX4_rings_54 rfl rfl rfl ?_
                        refine ew_if_eq (t := 252) (t2 := 58) dX4_rings_55 rfl rfl (fun _ => ?_) (fun q => absurd rfl q)
                        have hz := hZ.symm.trans ((hS _).trans (by rw [if_neg (not_not_intro c_77), if_pos c_86]))
                        rw [hz] at kk
                        exact kk _ _ _ _ ⟨by show (s3 8 + 0 + 0 : Int32) = _; rw [e38, Int32.add_zero, Int32.add_zero], e39, fun i h1 h2 => by first | rw [pk_un h1, e30 i h1 h2, pk_un h2, pk_un h1, e0 i h1 h2, hs.2.2 i h1 h2] | rw [pk_un h1, e30 i h1 h2, pk_un h2, pk_un h1, pk_un h1, e0 i h1 h2, hs.2.2 i h1 h2]⟩
                      · exact absurd c_237 (by decide)
                    · exact absurd c_207 (by decide)
                  · exact absurd c_188 (by decide)
                · exact absurd c_167 (by decide)
              · exact absurd c_156 (by decide)
