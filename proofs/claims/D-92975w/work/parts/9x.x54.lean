-- Obj fields dict_keys(['cls', 'fun', 'sname', 'refs', 'extra', 'ups'])
/-! the reference: held -/
set_option maxRecDepth 100000
/-- a flight's own rings -/
def hdR (f I : Nat → Int32) (a b H : Nat) : Nat → Nat → Int32
  | 0 => f
  | k + 1 => upd (hdR f I a b H k) (k + 1) (if nI H < nI (k + 1) then -1 else nI (awayF a (I (b + (k + 1))).toNatClampNeg))
theorem hdR_ge {f I : Nat → Int32} {a b H j : Nat} : ∀ k, k < j → hdR f I a b H k j = f j
  | 0, _ => rfl
  | k + 1, h => by
    show upd (hdR f I a b H k) (k + 1) _ j = f j
    rw [pk_un (show j ≠ k + 1 by omega)]
    exact hdR_ge k (by omega)
theorem hdR_0 {f I : Nat → Int32} {a b H : Nat} : ∀ k, hdR f I a b H k 0 = f 0
  | 0 => rfl
  | k + 1 => (pk_un (by omega)).trans (hdR_0 k)
theorem wbI_get {g f : Nat → Int32} {j : Nat} : ∀ k, wbI g f k j = if 1 ≤ j ∧ j ≤ k then f j else g j
  | 0 => by rw [if_neg (by omega)]; rfl
  | k + 1 => by
    show upd (wbI g f k) (k + 1) (f (k + 1)) j = _
    by_cases e : j = k + 1
    · rw [e, pk_us, if_pos (by omega)]
    · rw [pk_un e, wbI_get k]
      by_cases c : 1 ≤ j ∧ j ≤ k
      · rw [if_pos c, if_pos (by omega)]
      · rw [if_neg c, if_neg (by omega)]
theorem hd_back {f g I : Nat → Int32} {a b H : Nat} : wbI (hdR f I a b H 6) (wbI g f 6) 6 = f := by
  funext j
  rw [wbI_get]
  by_cases c : 1 ≤ j ∧ j ≤ 6
  · rw [if_pos c, wbI_get, if_pos c]
  · rw [if_neg c]
    by_cases e : j = 0
    · rw [e]; exact hdR_0 6
    · exact hdR_ge 6 (by omega)
def cnG (SN : Nat → Nat) (x : Nat) : Nat → Int32
  | 0 => 0
  | k + 1 => cnG SN x k + (if lN (SN k) ≤ lN (SN x) then 0 else 1)
def hldF (F : Nat → Nat → Int32) (a H : Nat) (wk : List WY) (S2 : (Nat → Int32) → Nat → Nat) (c lane i : Int32) : Int32 :=
  if b2i (inI c 0 3) = 0 then -1 else if ¬ b2i (inI lane 0 2) = 0 then (if 0 ≤ refI (F 59) (F 60) c.toNatClampNeg lane i (nI (H + 1)) then (if ¬ knA (F 61) (16 * c.toNatClampNeg + i.toNatClampNeg) H wk = 0 then cnG (S2 (hdR (F 35) (F 61) a (16 * c.toNatClampNeg + i.toNatClampNeg) H 6)) (F 61 (16 * c.toNatClampNeg + i.toNatClampNeg + H)).toNatClampNeg 100 else -2) else refI (F 59) (F 60) c.toNatClampNeg lane i (nI (H + 1))) else -1
theorem knF_all {w : WY} {I : Nat → Int32} {b : Nat} : ∀ k, ¬ knF w I b k = 0 → ∀ j, j < k → nI (w.1 j) = I (b + j)
  | 0, _, j, hj => by omega
  | k + 1, h, j, hj => by
    rw [knF] at h
    by_cases c1 : knF w I b k = 0
    · rw [if_pos c1] at h; exact absurd rfl h
    · rw [if_neg c1] at h
      by_cases c2 : nI (w.1 k) = I (b + k)
      · by_cases e : j = k
        · rw [e]; exact c2
        · exact knF_all k c1 j (by omega)
      · rw [if_pos c2] at h; exact absurd rfl h
theorem knA_all {F34 F35 F36 I : Nat → Int32} {nr nt nf : Int32} {a H b : Nat} : ∀ (ws : List WY) (v : Nat) (R : MR), EnM F34 F35 F36 nr nt nf a H ws v R → ¬ knA I b H ws = 0 → ∀ j, j ≤ H → I (b + j) = nI (I (b + j)).toNatClampNeg ∧ (I (b + j)).toNatClampNeg < 100
  | [], v, R, _, h => absurd rfl h
  | w :: ws, v, R, hE, h => by
    obtain ⟨f, R', h1, h2, h3⟩ := hE
    rw [knA] at h
    by_cases c1 : knF w I b (H + 1) = 0
    · rw [if_pos c1] at h; exact knA_all ws H R' h3 h
    · intro j hj
      have e := knF_all (H + 1) c1 j (by omega)
      have hl := (h2.1 j hj).2
      rw [← e, nI_clamp (by omega)]
      exact ⟨rfl, hl⟩

theorem mc_isKnown {l : Launch} {G : GW} {h : AH} {n : Nat} {s : Nat → Int32} {al : Int64} {F : Nat → Nat → Int32} {FL : Nat → Int64} {a H g np nd : Nat} (mc : MC s al F FL h) (mk : MKc s F a H g np nd) {ws : List WY} {b : Nat} (hb : b + (H + 1) ≤ 64) (hE : ∀ R, EnM (F 34) (F 35) (F 36) 127 0 0 a H ws 0 (begR (F 34 1) R)) : AM l G yX4_isKnown cX4_isKnown 4 (some .boolean) 4 0 0 [.ref 33, .int (nI b)] h n (fun r h' n' => r = some (.int (knA (F 61) b H ws)) ∧ n' = n ∧ frM h h' ∧ ∃ s' F', MC s' al F' FL h' ∧ (∀ k, ¬ (44 ≤ k ∧ k ≤ 51) → F' k = F k) ∧ (∀ j, j ≠ 21 → j ≠ 22 → j ≠ 23 → j ≠ 24 → s' j = s j)) := by
  refine AM.post ?_ (am_isKnown mc.1 (mc.cf mk) mc.rows mk.2.2.1 (mI mc 61 rfl) hb (hE F))
  rintro r h' n' ⟨rfl, rfl, lv, R', rfl⟩
  exact ⟨rfl, rfl, hovM_fr, _, rowsIn F R', MC_hovM mc, fun k hk => rowsIn_ne hk, fun j h1 h2 h3 h4 => by rw [pk_un h1, pk_un h2, pk_un h4, pk_un h3, pk_un h2]⟩
set_option maxHeartbeats 600000 in
theorem lp_held1 {l : Launch} {G : GW} {h : AH} {n : Nat} {s : Nat → Int32} {al : Int64} {t i b : Nat} {lane why : Int32} {Q : Option Value → AH → Nat → Prop} (m33 : h 33 = some (MO s al)) {F34 IT f0 g0 : Nat → Int32} {a H : Nat} (m34 : h 34 = some (IA 8 F34)) (m61 : h 61 = some (IA 64 IT)) (hF0 : F34 0 = nI a) (ha : a < 100) (hH : F34 2 = nI H) (hH6 : H ≤ 6) (hb : b + (H + 1) ≤ 64) (hc : ∀ j, j ≤ H → IT (b + j) = nI (IT (b + j)).toNatClampNeg ∧ (IT (b + j)).toNatClampNeg < 100) (kk : EW l G yX4_held cX4_held 8 (some .int) 6 0 0 Q 0 0 (hov h [(57, IA 7 (wbI g0 f0 6)), (35, IA 7 (hdR f0 IT a b H 6))]) n 147 [some (.ref 33), some (.int (nI t)), some (.int lane), some (.int (nI i)), some (.int why), some (.int (nI b)), some (.int (nI (6 + 1))), none] []) : ∀ (f k : Nat), k + f = 6 → EW l G yX4_held cX4_held 8 (some .int) 6 0 0 Q 0 0 (hov h [(57, IA 7 (wbI g0 f0 k)), (35, IA 7 (hdR f0 IT a b H k))]) n 84 [some (.ref 33), some (.int (nI t)), some (.int lane), some (.int (nI i)), some (.int why), some (.int (nI b)), some (.int (nI (k + 1))), none] [] := by
  intro f
  induction f with
  | zero =>
    intro k  hk
    refine ew_iload (t := 86) dX4_held_84 rfl rfl ?_
    refine ew_bipush (t := 88) (v := 7) dX4_held_86 (by decide) rfl ?_
    refine ew_icmp_ge (t := 147) (t2 := 91) dX4_held_88 rfl rfl (fun c_88 => ?_) (fun c_88 => ?_)
    · have ek : k = 6 := by omega
      subst ek
      exact kk
    · exact absurd (show (7 : Int32) ≤ nI (k + 1) by rw [show k = 6 by omega]; decide) c_88
  | succ f ih =>
    intro k  hk
    refine ew_iload (t := 86) dX4_held_84 rfl rfl ?_
    refine ew_bipush (t := 88) (v := 7) dX4_held_86 (by decide) rfl ?_
    refine ew_icmp_ge (t := 147) (t2 := 91) dX4_held_88 rfl rfl (fun c_88 => ?_) (fun c_88 => ?_)
    · exact absurd c_88 (nI_ge (b := 7) (by omega) (by omega))
    · refine ew_aload_n (t := 92) dX4_held_91 rfl rfl rfl ?_
      refine ew_get (t := 95) (j := 35) (v := .ref 57) fcX4 m33 (Nat.le_of_ble_eq_true rfl) q1056 rfl dX4_held_92 rfl ?_
      refine ew_iload (t := 97) dX4_held_95 rfl rfl ?_
      refine ew_aload_n (t := 98) dX4_held_97 rfl rfl rfl ?_
      refine ew_get (t := 101) (j := 1) (v := .ref 35) fcX4 m33 (Nat.le_of_ble_eq_true rfl) q1022 rfl dX4_held_98 rfl ?_
      refine ew_iload (t := 103) dX4_held_101 rfl rfl ?_
      refine ew_iald (t := 104) (j := (k + 1)) (N := 7) rfl (vp_in_nI (by omega) (by omega)) (nI_clamp (by omega)) dX4_held_103 rfl ?_
      rw [hdR_ge k (Nat.lt_succ_self k)]
      refine ew_iast (t := 105) (j := (k + 1)) (N := 7) (h' := (hov h [(57, IA 7 (upd (wbI g0 f0 k) (k + 1) (f0 (k + 1)))), (35, IA 7 (hdR f0 IT a b H k))])) rfl (vp_in_nI (by omega) (by omega)) (nI_clamp (by omega)) dX4_held_104 (hov_up rfl) rfl ?_
      refine ew_aload_n (t := 106) dX4_held_105 rfl rfl rfl ?_
      refine ew_get (t := 109) (j := 1) (v := .ref 35) fcX4 m33 (Nat.le_of_ble_eq_true rfl) q1022 rfl dX4_held_106 rfl ?_
      refine ew_iload (t := 111) dX4_held_109 rfl rfl ?_
      refine ew_iload (t := 113) dX4_held_111 rfl rfl ?_
      refine ew_aload_n (t := 114) dX4_held_113 rfl rfl rfl ?_
      refine ew_get (t := 117) (j := 0) (v := .ref 34) fcX4 m33 (Nat.le_of_ble_eq_true rfl) q1021 rfl dX4_held_114 rfl ?_
      refine ew_ic2 (t := 118) dX4_held_117 rfl ?_
      refine ew_iald (t := 119) (j := 2) (N := 8) m34 (vpI (by decide)) (by decide) dX4_held_118 rfl ?_
      rw [hH]
      have J140 : ∀ (j140_0 : Int32), j140_0 = ((if (nI H) < (nI (k + 1)) then (-1) else (nI (awayF a (IT (b + (k + 1))).toNatClampNeg))) : Int32) → EW l G yX4_held cX4_held 8 (some .int) 6 0 0 Q 0 0 (hov h [(57, IA 7 (upd (wbI g0 f0 k) (k + 1) (f0 (k + 1)))), (35, IA 7 (hdR f0 IT a b H k))]) n 140 [some (.ref 33), some (.int (nI t)), some (.int lane), some (.int (nI i)), some (.int why), some (.int (nI b)), some (.int (nI (k + 1))), none] [.int j140_0, .int (nI (k + 1)), .ref 35] := by
        intro j140_0 hj140_0
        refine ew_iast (t := 141) (j := (k + 1)) (N := 7) (h' := (hov h [(57, IA 7 (upd (wbI g0 f0 k) (k + 1) (f0 (k + 1)))), (35, IA 7 (upd (hdR f0 IT a b H k) (k + 1) j140_0))])) rfl (vp_in_nI (by omega) (by omega)) (nI_clamp (by omega)) dX4_held_140 (hov_up rfl) rfl ?_
        refine ew_iinc (t := 144) (x := (nI (k + 1))) (v := ((nI (k + 1)) + 1)) (L' := [some (.ref 33), some (.int (nI t)), some (.int lane), some (.int (nI i)), some (.int why), some (.int (nI b)), some (.int ((nI (k + 1)) + 1)), none]) dX4_held_141 rfl rfl (Nat.le_of_ble_eq_true rfl) rfl rfl ?_
        refine ew_goto (t := 84) dX4_held_144 rfl ?_
        rw [nI_1]
        refine EW.heap (h' := hov h [(57, IA 7 (wbI g0 f0 (k + 1))), (35, IA 7 (hdR f0 IT a b H (k + 1)))]) (by rw [hj140_0]; rfl) ?_
        exact ih (k + 1) (by omega)
      refine ew_icmp_gt (t := 139) (t2 := 122) dX4_held_119 rfl rfl (fun c_119 => ?_) (fun c_119 => ?_)
      · refine ew_icm1 (t := 140) dX4_held_139 rfl ?_
        exact J140 (-1) (by simp only [if_pos c_119])
      · refine ew_aload_n (t := 123) dX4_held_122 rfl rfl rfl ?_
        refine ew_aload_n (t := 124) dX4_held_123 rfl rfl rfl ?_
        refine ew_get (t := 127) (j := 40) (v := .ref 61) fcX4 m33 (Nat.le_of_ble_eq_true rfl) q1061 rfl dX4_held_124 rfl ?_
        refine ew_iload (t := 129) dX4_held_127 rfl rfl ?_
        refine ew_iload (t := 131) dX4_held_129 rfl rfl ?_
        refine ew_iadd (t := 132) dX4_held_131 rfl ?_
        have hk1 : k + 1 ≤ H := Nat.le_of_not_lt (fun q => c_119 (nI_lt q (by omega)))
        rw [nI_add]
        refine ew_iald (t := 133) (j := (b + (k + 1))) (N := 64) m61 (vp_in_nI (by omega) (by omega)) (nI_clamp (by omega)) dX4_held_132 rfl ?_
        rw [(hc (k + 1) hk1).1]
        refine ew_callV (t := 136) (As := [_]) (am_away (h := (hov h [(57, IA 7 (upd (wbI g0 f0 k) (k + 1) (f0 (k + 1)))), (35, IA 7 (hdR f0 IT a b H k))])) (b := (IT (b + (k + 1))).toNatClampNeg) m33 m34 hF0 ha (hc (k + 1) hk1).2) (fcX4).1 m33 (lw_V q1164 q1166 qs29 q60 q1167) rfl naX4_away dX4_held_133 rfl (Nat.le_of_ble_eq_true rfl) (Nat.le_of_ble_eq_true rfl) (Nat.le_refl _) (Nat.le_refl _) (Nat.le_of_ble_eq_true rfl) rfl (qi ?_)
        refine ew_goto (t := 140) dX4_held_136 rfl ?_
        exact J140 (nI (awayF a (IT (b + (k + 1))).toNatClampNeg)) (by simp only [if_neg c_119])
set_option maxHeartbeats 600000 in
theorem lp_held2 {l : Launch} {G : GW} {h : AH} {n : Nat} {s : Nat → Int32} {al : Int64} {t i b : Nat} {lane why : Int32} {Q : Option Value → AH → Nat → Prop} (m33 : h 33 = some (MO s al)) {f1 g1 : Nat → Int32} (m57 : h 57 = some (IA 7 f1)) (kk : EW l G yX4_held cX4_held 8 (some .int) 6 0 0 Q 0 0 (hov h [(35, IA 7 (wbI g1 f1 6))]) n 181 [some (.ref 33), some (.int (nI t)), some (.int lane), some (.int (nI i)), some (.int why), some (.int (nI b)), some (.int (nI (6 + 1))), none] []) : ∀ (f k : Nat), k + f = 6 → EW l G yX4_held cX4_held 8 (some .int) 6 0 0 Q 0 0 (hov h [(35, IA 7 (wbI g1 f1 k))]) n 154 [some (.ref 33), some (.int (nI t)), some (.int lane), some (.int (nI i)), some (.int why), some (.int (nI b)), some (.int (nI (k + 1))), none] [] := by
  intro f
  induction f with
  | zero =>
    intro k  hk
    refine ew_iload (t := 156) dX4_held_154 rfl rfl ?_
    refine ew_bipush (t := 158) (v := 7) dX4_held_156 (by decide) rfl ?_
    refine ew_icmp_ge (t := 181) (t2 := 161) dX4_held_158 rfl rfl (fun c_158 => ?_) (fun c_158 => ?_)
    · have ek : k = 6 := by omega
      subst ek
      exact kk
    · exact absurd (show (7 : Int32) ≤ nI (k + 1) by rw [show k = 6 by omega]; decide) c_158
  | succ f ih =>
    intro k  hk
    refine ew_iload (t := 156) dX4_held_154 rfl rfl ?_
    refine ew_bipush (t := 158) (v := 7) dX4_held_156 (by decide) rfl ?_
    refine ew_icmp_ge (t := 181) (t2 := 161) dX4_held_158 rfl rfl (fun c_158 => ?_) (fun c_158 => ?_)
    · exact absurd c_158 (nI_ge (b := 7) (by omega) (by omega))
    · refine ew_aload_n (t := 162) dX4_held_161 rfl rfl rfl ?_
      refine ew_get (t := 165) (j := 1) (v := .ref 35) fcX4 m33 (Nat.le_of_ble_eq_true rfl) q1022 rfl dX4_held_162 rfl ?_
      refine ew_iload (t := 167) dX4_held_165 rfl rfl ?_
      refine ew_aload_n (t := 168) dX4_held_167 rfl rfl rfl ?_
      refine ew_get (t := 171) (j := 35) (v := .ref 57) fcX4 m33 (Nat.le_of_ble_eq_true rfl) q1056 rfl dX4_held_168 rfl ?_
      refine ew_iload (t := 173) dX4_held_171 rfl rfl ?_
      refine ew_iald (t := 174) (j := (k + 1)) (N := 7) m57 (vp_in_nI (by omega) (by omega)) (nI_clamp (by omega)) dX4_held_173 rfl ?_
      refine ew_iast (t := 175) (j := (k + 1)) (N := 7) (h' := (hov h [(35, IA 7 (upd (wbI g1 f1 k) (k + 1) (f1 (k + 1))))])) rfl (vp_in_nI (by omega) (by omega)) (nI_clamp (by omega)) dX4_held_174 (hov_up rfl) rfl ?_
      refine ew_iinc (t := 178) (x := (nI (k + 1))) (v := ((nI (k + 1)) + 1)) (L' := [some (.ref 33), some (.int (nI t)), some (.int lane), some (.int (nI i)), some (.int why), some (.int (nI b)), some (.int ((nI (k + 1)) + 1)), none]) dX4_held_175 rfl rfl (Nat.le_of_ble_eq_true rfl) rfl rfl ?_
      refine ew_goto (t := 154) dX4_held_178 rfl ?_
      rw [nI_1]
      exact ih (k + 1) (by omega)
set_option maxHeartbeats 600000 in
theorem lp_held3 {l : Launch} {G : GW} {h : AH} {n : Nat} {s : Nat → Int32} {al : Int64} {t i b : Nat} {lane why : Int32} {Q : Option Value → AH → Nat → Prop} (m33 : h 33 = some (MO s al)) {F34 IT : Nat → Int32} {FL : Nat → Int64} {SN : Nat → Nat} {x H : Nat} (m34 : h 34 = some (IA 8 F34)) (m61 : h 61 = some (IA 64 IT)) (m55 : h 55 = some (JA 100 FL)) (hH : F34 2 = nI H) (hb : b + (H + 1) ≤ 64) (hx : IT (b + H) = nI x) (hx1 : x < 100) (hFL : ∀ j, j < 100 → FL j = lN (SN j)) (hq : Q (some (.int (cnG SN x 100))) h n) : ∀ (f k : Nat), k + f = 100 → EW l G yX4_held cX4_held 8 (some .int) 6 0 0 Q 0 0 h n 187 [some (.ref 33), some (.int (nI t)), some (.int lane), some (.int (nI i)), some (.int why), some (.int (nI b)), some (.int (cnG SN x k)), some (.int (nI k))] [] := by
  intro f
  induction f with
  | zero =>
    intro k  hk
    refine ew_iload (t := 189) dX4_held_187 rfl rfl ?_
    refine ew_bipush (t := 191) (v := 100) dX4_held_189 (by decide) rfl ?_
    refine ew_icmp_ge (t := 240) (t2 := 194) dX4_held_191 rfl rfl (fun c_191 => ?_) (fun c_191 => ?_)
    · refine ew_iload (t := 242) dX4_held_240 rfl rfl ?_
      exact ew_iret rfl dX4_held_242 (Nat.le_refl _) (Nat.le_refl _) (by rw [show k = 100 by omega]; exact hq)
    · exact absurd (show (100 : Int32) ≤ nI k by rw [show k = 100 by omega]; decide) c_191
  | succ f ih =>
    intro k  hk
    refine ew_iload (t := 189) dX4_held_187 rfl rfl ?_
    refine ew_bipush (t := 191) (v := 100) dX4_held_189 (by decide) rfl ?_
    refine ew_icmp_ge (t := 240) (t2 := 194) dX4_held_191 rfl rfl (fun c_191 => ?_) (fun c_191 => ?_)
    · exact absurd c_191 (nI_ge (b := 100) (by omega) (by omega))
    · refine ew_iload (t := 196) dX4_held_194 rfl rfl ?_
      refine ew_aload_n (t := 197) dX4_held_196 rfl rfl rfl ?_
      refine ew_get (t := 200) (j := 30) (v := .ref 55) fcX4 m33 (Nat.le_of_ble_eq_true rfl) q1051 rfl dX4_held_197 rfl ?_
      refine ew_iload (t := 202) dX4_held_200 rfl rfl ?_
      refine ew_lald (t := 203) (j := k) (N := 100) m55 (vp_in_nI (by omega) (by omega)) (nI_clamp (by omega)) dX4_held_202 rfl ?_
      rw [hFL k (by omega)]
      refine ew_aload_n (t := 204) dX4_held_203 rfl rfl rfl ?_
      refine ew_get (t := 207) (j := 30) (v := .ref 55) fcX4 m33 (Nat.le_of_ble_eq_true rfl) q1051 rfl dX4_held_204 rfl ?_
      refine ew_aload_n (t := 208) dX4_held_207 rfl rfl rfl ?_
      refine ew_get (t := 211) (j := 40) (v := .ref 61) fcX4 m33 (Nat.le_of_ble_eq_true rfl) q1061 rfl dX4_held_208 rfl ?_
      refine ew_iload (t := 213) dX4_held_211 rfl rfl ?_
      refine ew_aload_n (t := 214) dX4_held_213 rfl rfl rfl ?_
      refine ew_get (t := 217) (j := 0) (v := .ref 34) fcX4 m33 (Nat.le_of_ble_eq_true rfl) q1021 rfl dX4_held_214 rfl ?_
      refine ew_ic2 (t := 218) dX4_held_217 rfl ?_
      refine ew_iald (t := 219) (j := 2) (N := 8) m34 (vpI (by decide)) (by decide) dX4_held_218 rfl ?_
      rw [hH]
      refine ew_iadd (t := 220) dX4_held_219 rfl ?_
      rw [nI_add]
      refine ew_iald (t := 221) (j := (b + H)) (N := 64) m61 (vp_in_nI (by omega) (by omega)) (nI_clamp (by omega)) dX4_held_220 rfl ?_
      rw [hx]
      refine ew_lald (t := 222) (j := x) (N := 100) m55 (vp_in_nI (by omega) (by omega)) (nI_clamp (by omega)) dX4_held_221 rfl ?_
      rw [hFL x hx1]
      have J231 : ∀ (j231_0 : Int32), j231_0 = ((if (lN (SN k)) ≤ (lN (SN x)) then 0 else 1) : Int32) → EW l G yX4_held cX4_held 8 (some .int) 6 0 0 Q 0 0 h n 231 [some (.ref 33), some (.int (nI t)), some (.int lane), some (.int (nI i)), some (.int why), some (.int (nI b)), some (.int (cnG SN x k)), some (.int (nI k))] [.int j231_0, .int (cnG SN x k)] := by
        intro j231_0 hj231_0
        refine ew_iadd (t := 232) dX4_held_231 rfl ?_
        refine ew_istore (t := 234) (L' := [some (.ref 33), some (.int (nI t)), some (.int lane), some (.int (nI i)), some (.int why), some (.int (nI b)), some (.int ((cnG SN x k) + j231_0)), some (.int (nI k))]) dX4_held_232 (Nat.le_of_ble_eq_true rfl) rfl rfl ?_
        refine ew_iinc (t := 237) (x := (nI k)) (v := ((nI k) + 1)) (L' := [some (.ref 33), some (.int (nI t)), some (.int lane), some (.int (nI i)), some (.int why), some (.int (nI b)), some (.int ((cnG SN x k) + j231_0)), some (.int ((nI k) + 1))]) dX4_held_234 rfl rfl (Nat.le_of_ble_eq_true rfl) rfl rfl ?_
        refine ew_goto (t := 187) dX4_held_237 rfl ?_
        rw [nI_1]
        rw [show cnG SN x k + j231_0 = cnG SN x (k + 1) from by rw [hj231_0]; rfl]
        exact ih (k + 1) (by omega)
      refine ew_lcmp_le (t1 := 223) (t := 230) (t2 := 226) dX4_held_222 rfl dX4_held_223 rfl rfl (fun c_222 => ?_) (fun c_222 => ?_)
      · refine ew_ic0 (t := 231) dX4_held_230 rfl ?_
        exact J231 0 (by simp only [if_pos c_222])
      · refine ew_ic1 (t := 227) dX4_held_226 rfl ?_
        refine ew_goto (t := 231) dX4_held_227 rfl ?_
        exact J231 1 (by simp only [if_neg c_222])
theorem hov_perm3b {h : AH} {a b c : Nat} {x y z : AC} (h1 : ¬ a = c) (h2 : ¬ b = c) : hov (hov h [(c, z)]) [(a, x), (b, y)] = hov h [(c, z), (a, x), (b, y)] := hov_perm3 (h := h) (x := x) (y := y) (z := z) h1 h2
set_option maxHeartbeats 600000 in
theorem mc_held {l : Launch} {G : GW} {h : AH} {n : Nat} {s : Nat → Int32} {al : Int64} {F : Nat → Nat → Int32} {FL : Nat → Int64} {a H g np nd : Nat} (mc : MC s al F FL h) (mk : MKc s F a H g np nd) {wk : List WY} (hK : ∀ R, EnM (F 34) (F 35) (F 36) 127 0 0 a H wk 0 (begR (F 34 1) R)) {W2 : (Nat → Int32) → List WY} (h2E : ∀ f R, EnM (F 34) f (F 36) 0 1 0 a H (W2 f) 0 (begR (F 34 1) R)) {S2 : (Nat → Int32) → Nat → Nat} (hS2 : ∀ f j, j < 100 → suF F 15 1 H g np nd (W2 f) j = lN (S2 f j)) (hSZ : ∀ t, t < 4 → ∃ z, z ≤ 16 ∧ F 60 t = nI z) (c lane i : Int32) : AM l G yX4_held cX4_held 8 (some .int) 6 0 0 [.ref 33, .int c, .int lane, .int i] h n (OpQ s F h n (.int (hldF F a H wk S2 c lane i))) := by
  refine AM.of (L := [some (.ref 33), some (.int c), some (.int lane), some (.int i), none, none, none, none]) (by decide) (Nat.le_of_ble_eq_true rfl) rfl ?_
  refine ew_iload_n (t := 1) dX4_held_0 rfl rfl rfl ?_
  refine ew_callS (t := 4) (As := [_]) (am_isSheet  _) (lw_S q1361 q1362 q60 q1363) naX4_isSheet dX4_held_1 rfl (Nat.le_of_ble_eq_true rfl) (Nat.le_of_ble_eq_true rfl) (Nat.le_refl _) (Nat.le_refl _) (Nat.le_of_ble_eq_true rfl) rfl (qi ?_)
  refine ew_if_eq (t := 14) (t2 := 7) dX4_held_4 rfl rfl (fun c_4 => ?_) (fun c_4 => ?_)
  · refine ew_icm1 (t := 15) dX4_held_14 rfl ?_
    exact ew_iret rfl dX4_held_15 (Nat.le_refl _) (Nat.le_refl _) (by unfold hldF; rw [if_pos c_4]; exact OpQ.same mc rfl)
  · refine ew_iload_n (t := 8) dX4_held_7 rfl rfl rfl ?_
    refine ew_callS (t := 11) (As := [_]) (am_isLane  _) (lw_S q1365 q1366 q60 q1367) naX4_isLane dX4_held_8 rfl (Nat.le_of_ble_eq_true rfl) (Nat.le_of_ble_eq_true rfl) (Nat.le_refl _) (Nat.le_refl _) (Nat.le_of_ble_eq_true rfl) rfl (qi ?_)
    refine ew_if_ne (t := 16) (t2 := 14) dX4_held_11 rfl rfl (fun c_11 => ?_) (fun c_11 => ?_)
    · have hH6 := mk.2.2.2.2.2.1
      obtain ⟨t, ht0, ht, rfl⟩ := inI_nat (c := c) (lo := 0) (hi := 3) (by decide) (by decide) (b2i_1.mp c_4)
      refine ew_aload_n (t := 17) dX4_held_16 rfl rfl rfl ?_
      refine ew_iload_n (t := 18) dX4_held_17 rfl rfl rfl ?_
      refine ew_iload_n (t := 19) dX4_held_18 rfl rfl rfl ?_
      refine ew_iload_n (t := 20) dX4_held_19 rfl rfl rfl ?_
      refine ew_aload_n (t := 21) dX4_held_20 rfl rfl rfl ?_
      refine ew_get (t := 24) (j := 0) (v := .ref 34) fcX4 mc.1 (Nat.le_of_ble_eq_true rfl) q1021 rfl dX4_held_21 rfl ?_
      refine ew_ic2 (t := 25) dX4_held_24 rfl ?_
      refine ew_iald (t := 26) (j := 2) (N := 8) (mI mc 34 rfl) (vpI (by decide)) (by decide) dX4_held_25 rfl ?_
      rw [mk.2.2.2.1]
      refine ew_ic1 (t := 27) dX4_held_26 rfl ?_
      refine ew_iadd (t := 28) dX4_held_27 rfl ?_
      rw [nI_1]
      refine ew_callV (t := 31) (As := [_, _, _, _]) (am_refuses (h := h) (t := t) mc (by omega) lane i (nI (H + 1))) (fcX4).1 mc.1 (lw_V q1368 q1370 qs48 q60 q1371) rfl naX4_refuses dX4_held_28 rfl (Nat.le_of_ble_eq_true rfl) (Nat.le_of_ble_eq_true rfl) (Nat.le_refl _) (Nat.le_refl _) (Nat.le_of_ble_eq_true rfl) rfl (qi ?_)
      refine ew_istore (t := 33) (L' := [some (.ref 33), some (.int (nI t)), some (.int lane), some (.int i), some (.int (refI (F 59) (F 60) t lane i (nI (H + 1)))), none, none, none]) dX4_held_31 (Nat.le_of_ble_eq_true rfl) rfl rfl ?_
      refine ew_iload (t := 35) dX4_held_33 rfl rfl ?_
      refine ew_if_ge (t := 41) (t2 := 38) dX4_held_35 rfl rfl (fun c_35 => ?_) (fun c_35 => ?_)
      · obtain ⟨z, hz, eZ⟩ := hSZ t (by omega)
        obtain ⟨eL, k, rfl, hk⟩ := refI_ok (m := H + 1) (by omega) hz eZ c_35
        refine ew_bipush (t := 43) (v := 16) dX4_held_41 (by decide) rfl ?_
        refine ew_iload_n (t := 44) dX4_held_43 rfl rfl rfl ?_
        refine ew_imul (t := 45) dX4_held_44 rfl ?_
        refine ew_iload_n (t := 46) dX4_held_45 rfl rfl rfl ?_
        refine ew_iadd (t := 47) dX4_held_46 rfl ?_
        rw [show (16 : Int32) * nI t + nI k = nI (16 * t + k) from by rw [show (16 : Int32) = nI 16 from rfl, pk_mul, nI_add]]
        refine ew_istore (t := 49) (L' := [some (.ref 33), some (.int (nI t)), some (.int lane), some (.int (nI k)), some (.int (refI (F 59) (F 60) t lane (nI k) (nI (H + 1)))), some (.int (nI (16 * t + k))), none, none]) dX4_held_47 (Nat.le_of_ble_eq_true rfl) rfl rfl ?_
        refine ew_aload_n (t := 50) dX4_held_49 rfl rfl rfl ?_
        refine ew_iload (t := 52) dX4_held_50 rfl rfl ?_
        refine ew_callV (t := 55) (As := [_]) (mc_isKnown (b := (16 * t + k)) mc mk (by omega) (hK)) (fcX4).1 mc.1 (lw_V q1372 q1374 qs49 q60 q1375) rfl naX4_isKnown dX4_held_52 rfl (Nat.le_of_ble_eq_true rfl) (Nat.le_of_ble_eq_true rfl) (Nat.le_refl _) (Nat.le_refl _) (Nat.le_of_ble_eq_true rfl) rfl (fun r h1 n1 q => ?_)
        obtain ⟨rfl, qn, q3, s', F', q4, q5, q6⟩ := q
        replace qn := qn.symm
        subst qn
        refine ew_if_ne (t := 61) (t2 := 58) dX4_held_55 rfl rfl (fun c_55 => ?_) (fun c_55 => ?_)
        · refine ew_aload_n (t := 62) dX4_held_61 rfl rfl rfl ?_
          refine ew_callV (t := 65) (As := []) (am_asTold q4.1) (fcX4).1 q4.1 (lw_V q1211 q1213 qs33 q60 q1214) rfl naX4_asTold dX4_held_62 rfl (Nat.le_of_ble_eq_true rfl) (Nat.le_of_ble_eq_true rfl) (Nat.le_refl _) (Nat.le_refl _) (Nat.le_of_ble_eq_true rfl) rfl (qv ?_)
          refine ew_aload_n (t := 66) dX4_held_65 rfl rfl rfl ?_
          refine ew_ic1 (t := 67) dX4_held_66 rfl ?_
          refine ew_put (t := 70) (j := 23) (fs' := MOf (upd (upd (upd s' 22 0) 23 1) 24 0) al) (h' := (hov h1 [(33, OB 4 (MOf (upd (upd (upd s' 22 0) 23 1) 24 0) al))])) fcX4 rfl (Nat.le_of_ble_eq_true rfl) rfl q1044 (by decide) (by decide) (Nat.le_of_ble_eq_true rfl) rfl dX4_held_67 (hov_up rfl) rfl ?_
          refine ew_aload_n (t := 71) dX4_held_70 rfl rfl rfl ?_
          refine ew_bipush (t := 73) (v := 15) dX4_held_71 (by decide) rfl ?_
          refine ew_put (t := 76) (j := 32) (fs' := MOf (upd (upd (upd (upd s' 22 0) 23 1) 24 0) 32 15) al) (h' := (hov h1 [(33, OB 4 (MOf (upd (upd (upd (upd s' 22 0) 23 1) 24 0) 32 15) al))])) fcX4 rfl (Nat.le_of_ble_eq_true rfl) rfl q1053 rfl rfl (Nat.le_of_ble_eq_true rfl) rfl dX4_held_73 (hov_up rfl) rfl ?_
          refine ew_aload_n (t := 77) dX4_held_76 rfl rfl rfl ?_
          refine ew_ic1 (t := 78) dX4_held_77 rfl ?_
          refine ew_put (t := 81) (j := 33) (fs' := MOf (upd (upd (upd (upd (upd s' 22 0) 23 1) 24 0) 32 15) 33 1) al) (h' := (hov h1 [(33, OB 4 (MOf (upd (upd (upd (upd (upd s' 22 0) 23 1) 24 0) 32 15) 33 1) al))])) fcX4 rfl (Nat.le_of_ble_eq_true rfl) rfl q1054 (by decide) (by decide) (Nat.le_of_ble_eq_true rfl) rfl dX4_held_78 (hov_up rfl) rfl ?_
          refine ew_ic1 (t := 82) dX4_held_81 rfl ?_
          refine ew_istore (t := 84) (L' := [some (.ref 33), some (.int (nI t)), some (.int lane), some (.int (nI k)), some (.int (refI (F 59) (F 60) t lane (nI k) (nI (H + 1)))), some (.int (nI (16 * t + k))), some (.int 1), none]) dX4_held_82 (Nat.le_of_ble_eq_true rfl) rfl rfl ?_
          have hc := knA_all (I := F 61) (b := (16 * t + k)) wk 0 _ (hK F) c_55
          have e61 := q5 61 (by omega)
          have e34 := q5 34 (by omega)
          have e35 := q5 35 (by omega)
          refine EW.heap (h' := hov (hov h1 [(33, MO (upd (upd (upd (upd (upd s' 22 0) 23 1) 24 0) 32 15) 33 1) al)]) [(57, IA 7 (F' 57)), (35, IA 7 (F' 35))]) (hov_same2 (show hov h1 [(33, MO (upd (upd (upd (upd (upd s' 22 0) 23 1) 24 0) 32 15) 33 1) al)] 57 = some (IA 7 (F' 57)) from mI q4 57 rfl) (show hov h1 [(33, MO (upd (upd (upd (upd (upd s' 22 0) 23 1) 24 0) 32 15) 33 1) al)] 35 = some (IA 7 (F' 35)) from mI q4 35 rfl)).symm ?_
          rw [e35]
          refine lp_held1 (h := hov h1 [(33, MO (upd (upd (upd (upd (upd s' 22 0) 23 1) 24 0) 32 15) 33 1) al)]) (s := (upd (upd (upd (upd (upd s' 22 0) 23 1) 24 0) 32 15) 33 1)) (IT := F 61) (f0 := F 35) (g0 := F' 57) (F34 := F 34) (a := a) (H := H) rfl (e34 ▸ mI q4 34 rfl) (e61 ▸ mI q4 61 rfl) mk.1 mk.2.1 mk.2.2.2.1 mk.2.2.2.2.2.1 (by omega) hc ?_ 6 0 (by omega)
          refine EW.heap (h' := hov h1 [(33, MO (upd (upd (upd (upd (upd s' 22 0) 23 1) 24 0) 32 15) 33 1) al), (57, IA 7 (wbI (F' 57) (F 35) 6)), (35, IA 7 (hdR (F 35) (F 61) a (16 * t + k) H 6))]) (hov_perm3b (by decide) (by decide)) ?_
          refine ew_aload_n (t := 148) dX4_held_147 rfl rfl rfl ?_
          have mc2 : MC (upd (upd (upd (upd (upd s' 22 0) 23 1) 24 0) 32 15) 33 1) al (va_up (va_up F' 35 (hdR (F 35) (F 61) a (16 * t + k) H 6)) 57 (wbI (F' 57) (F 35) 6)) FL (hov h1 [(33, OB 4 (MOf (upd (upd (upd (upd (upd s' 22 0) 23 1) 24 0) 32 15) 33 1) al)), (57, IA 7 (wbI (F' 57) (F 35) 6)), (35, IA 7 (hdR (F 35) (F 61) a (16 * t + k) H 6))]) := MC_33 (MC_I (c := 57) rfl (MC_I (c := 35) rfl (l := []) q4))
          have e1 : ∀ zz, perM zz = true → zz ≠ 35 → va_up (va_up F' 35 (hdR (F 35) (F 61) a (16 * t + k) H 6)) 57 (wbI (F' 57) (F 35) 6) zz = F zz := fun zz hzz h5 => (va_up_ne _ _ (by intro e; rw [e] at hzz; cases hzz)).trans ((va_up_ne _ _ h5).trans (q5 zz (perM_r hzz)))
          have mk2 : MKc (upd (upd (upd (upd (upd s' 22 0) 23 1) 24 0) 32 15) 33 1) (va_up (va_up F' 35 (hdR (F 35) (F 61) a (16 * t + k) H 6)) 57 (wbI (F' 57) (F 35) 6)) a H g np nd := by
            have h34 := e1 34 rfl (by decide)
            have h52 := e1 52 rfl (by decide)
            unfold MKc at mk ⊢
            rw [h34, h52]
            rw [show (upd (upd (upd (upd (upd s' 22 0) 23 1) 24 0) 32 15) 33 1) 25 = s 25 from q6 25 (by decide) (by decide) (by decide) (by decide), show (upd (upd (upd (upd (upd s' 22 0) 23 1) 24 0) 32 15) 33 1) 27 = s 27 from q6 27 (by decide) (by decide) (by decide) (by decide)]
            exact mk
          have ends2 := fun (l : Launch) (G : GW) => mc_ends (l := l) (G := G) (n := n) (ws := W2 (hdR (F 35) (F 61) a (16 * t + k) H 6)) mc2 mk2 (by rw [e1 34 rfl (by decide), e1 36 rfl (by decide)]; exact h2E (hdR (F 35) (F 61) a (16 * t + k) H 6))
          have es : suF (va_up (va_up F' 35 (hdR (F 35) (F 61) a (16 * t + k) H 6)) 57 (wbI (F' 57) (F 35) 6)) 15 1 H g np nd (W2 (hdR (F 35) (F 61) a (16 * t + k) H 6)) = (suF F 15 1 H g np nd (W2 (hdR (F 35) (F 61) a (16 * t + k) H 6))) := by unfold suF; rw [e1 52 rfl (by decide), e1 37 rfl (by decide), e1 38 rfl (by decide), e1 53 rfl (by decide), e1 54 rfl (by decide), e1 34 rfl (by decide)]
          have ea : alF (va_up (va_up F' 35 (hdR (F 35) (F 61) a (16 * t + k) H 6)) 57 (wbI (F' 57) (F 35) 6)) 15 1 H g np nd (W2 (hdR (F 35) (F 61) a (16 * t + k) H 6)) = (alF F 15 1 H g np nd (W2 (hdR (F 35) (F 61) a (16 * t + k) H 6))) := by unfold alF; rw [e1 52 rfl (by decide), e1 37 rfl (by decide), e1 38 rfl (by decide), e1 53 rfl (by decide), e1 54 rfl (by decide), e1 34 rfl (by decide)]
          change ∀ (l : Launch) (G : GW), AM l G _ _ _ _ _ _ _ _ _ _ (EndQ _ _ _ _ (suF _ 15 1 H g np nd _) (alF _ 15 1 H g np nd _)) at ends2
          rw [es, ea] at ends2
          refine ew_callV (t := 151) (As := []) (ends2 l G) (fcX4).1 rfl (lw_V q1310 q1312 qs44 q60 q1313) rfl naX4_ends dX4_held_148 rfl (Nat.le_of_ble_eq_true rfl) (Nat.le_of_ble_eq_true rfl) (Nat.le_refl _) (Nat.le_refl _) (Nat.le_of_ble_eq_true rfl) rfl (fun r h2 n2 q => ?_)
          obtain ⟨rfl, qn, r3, s2, F2, r4, r5, r6⟩ := q
          replace qn := qn.symm
          subst qn
          refine ew_ic1 (t := 152) dX4_held_151 rfl ?_
          refine ew_istore (t := 154) (L' := [some (.ref 33), some (.int (nI t)), some (.int lane), some (.int (nI k)), some (.int (refI (F 59) (F 60) t lane (nI k) (nI (H + 1)))), some (.int (nI (16 * t + k))), some (.int 1), none]) dX4_held_152 (Nat.le_of_ble_eq_true rfl) rfl rfl ?_
          have f35 : F2 35 = (hdR (F 35) (F 61) a (16 * t + k) H 6) := (r5 35 (by omega)).trans ((va_up_ne _ _ (by decide)).trans (va_up_self _ _ _))
          have f57 : F2 57 = wbI (F' 57) (F 35) 6 := (r5 57 (by omega)).trans (va_up_self _ _ _)
          have f61 : F2 61 = F 61 := (r5 61 (by omega)).trans ((va_up_ne _ _ (by decide)).trans ((va_up_ne _ _ (by decide)).trans e61))
          have f34 : F2 34 = F 34 := (r5 34 (by omega)).trans ((va_up_ne _ _ (by decide)).trans ((va_up_ne _ _ (by decide)).trans e34))
          refine EW.heap (h' := hov h2 [(35, IA 7 (F2 35))]) (hov_same (h := h2) (mI r4 35 rfl)).symm ?_
          refine lp_held2 (h := h2) (s := s2) (f1 := F2 57) (g1 := F2 35) r4.1 (mI r4 57 rfl) ?_ 6 0 (by omega)
          rw [f35, f57, hd_back]
          have mc3 : MC s2 (alF F 15 1 H g np nd (W2 (hdR (F 35) (F 61) a (16 * t + k) H 6))) (va_up F2 35 (F 35)) (suF F 15 1 H g np nd (W2 (hdR (F 35) (F 61) a (16 * t + k) H 6))) (hov h2 [(35, IA 7 (F 35))]) := MC_I (c := 35) rfl (l := []) r4
          refine ew_ic0 (t := 182) dX4_held_181 rfl ?_
          refine ew_istore (t := 184) (L' := [some (.ref 33), some (.int (nI t)), some (.int lane), some (.int (nI k)), some (.int (refI (F 59) (F 60) t lane (nI k) (nI (H + 1)))), some (.int (nI (16 * t + k))), some (.int 0), none]) dX4_held_182 (Nat.le_of_ble_eq_true rfl) rfl rfl ?_
          refine ew_ic0 (t := 185) dX4_held_184 rfl ?_
          refine ew_istore (t := 187) (L' := [some (.ref 33), some (.int (nI t)), some (.int lane), some (.int (nI k)), some (.int (refI (F 59) (F 60) t lane (nI k) (nI (H + 1)))), some (.int (nI (16 * t + k))), some (.int 0), some (.int 0)]) dX4_held_185 (Nat.le_of_ble_eq_true rfl) rfl rfl ?_
          refine lp_held3 (h := hov h2 [(35, IA 7 (F 35))]) (s := s2) (F34 := F 34) (IT := F 61) (SN := S2 (hdR (F 35) (F 61) a (16 * t + k) H 6)) (x := (F 61 ((16 * t + k) + H)).toNatClampNeg) mc3.1 (f34 ▸ mI r4 34 rfl) (f61 ▸ mI r4 61 rfl) mc3.2.1 mk.2.2.2.1 (by omega) (hc H (Nat.le_refl _)).1 (hc H (Nat.le_refl _)).2 (fun j hj => hS2 (hdR (F 35) (F 61) a (16 * t + k) H 6) j hj) ?_ 100 0 (by omega)
          unfold hldF
          rw [if_neg c_4, if_pos c_11, nI_clamp (n := t) (by omega), if_pos c_35, nI_clamp (n := k) (by omega), if_pos c_55]
          refine ⟨rfl, rfl, fun k hk => (hov_fr 33 63 rfl k hk).trans ((r3 k hk).trans ((hov_fr 33 63 rfl k hk).trans (q3 k hk))), s2, _, _, _, mc3, fun k hk => ?_, (r6 7 (by decide)).trans (q6 7 (by decide) (by decide) (by decide) (by decide)), (r6 25 (by decide)).trans (q6 25 (by decide) (by decide) (by decide) (by decide)), (r6 27 (by decide)).trans (q6 27 (by decide) (by decide) (by decide) (by decide)), (r6 37 (by decide)).trans (q6 37 (by decide) (by decide) (by decide) (by decide))⟩
          by_cases h5 : k = 35
          · rw [h5]; exact va_up_self _ _ _
          · exact (va_up_ne _ _ h5).trans ((r5 k (perM_r hk)).trans ((va_up_ne _ _ (by intro e; rw [e] at hk; cases hk)).trans ((va_up_ne _ _ h5).trans (q5 k (perM_r hk)))))
        · refine ew_bipush (t := 60) (v := (-2)) dX4_held_58 (by decide) rfl ?_
          exact ew_iret rfl dX4_held_60 (Nat.le_refl _) (Nat.le_refl _) (by unfold hldF; rw [if_neg c_4, if_pos c_11, nI_clamp (n := t) (by omega), if_pos c_35, nI_clamp (n := k) (by omega), if_neg (not_not_intro c_55)]; exact OpQ.fnd q3 q4 q5 q6 rfl)
      · refine ew_iload (t := 40) dX4_held_38 rfl rfl ?_
        exact ew_iret rfl dX4_held_40 (Nat.le_refl _) (Nat.le_refl _) (by unfold hldF; rw [if_neg c_4, if_pos c_11, nI_clamp (n := t) (by omega), if_neg c_35]; exact OpQ.same mc rfl)
    · refine ew_icm1 (t := 15) dX4_held_14 rfl ?_
      exact ew_iret rfl dX4_held_15 (Nat.le_refl _) (Nat.le_refl _) (by unfold hldF; rw [if_neg c_4, if_neg (not_not_intro c_11)]; exact OpQ.same mc rfl)
