/-! the reference: ends, its first loops -/
set_option maxRecDepth 100000
theorem updL_updL (f : Nat → Int64) (k : Nat) (x z : Int64) : vp_updL (vp_updL f k x) k z = vp_updL f k z := by
  funext j
  unfold vp_updL
  by_cases h : j = k
  · rw [if_pos h, if_pos h]
  · rw [if_neg h, if_neg h, if_neg h]
theorem updL_self (f : Nat → Int64) (k : Nat) : vp_updL f k (f k) = f := by
  funext j
  unfold vp_updL
  by_cases h : j = k
  · rw [if_pos h, h]
  · rw [if_neg h]
def zerL (f : Nat → Int64) : Nat → Nat → Int64
  | 0 => f
  | k + 1 => vp_updL (zerL f k) k 0
/-- what a way's glides add -/
def glF (cell co : Int32) (own : Int64) (f : Nat → Int64) : Nat → Nat → Int64
  | 0 => f
  | k + 1 => if goneF cell co (nI (k + 1)) < 0 then glF cell co own f k else vp_updL (glF cell co own f k) (goneF cell co (nI (k + 1))).toNatClampNeg (glF cell co own f k (goneF cell co (nI (k + 1))).toNatClampNeg + own)
def ownW (w : WY) : Int32 := heavyI w.2.2.1 (nI w.2.2.2.1) (nI w.2.2.2.2)
def wayS (H g : Nat) (w : WY) (f : Nat → Int64) : Nat → Int64 := glF (nI (w.1 H)) (nI w.2.1) (ownW w).toInt64 (vp_updL f (w.1 H) (f (w.1 H) + 2 * (ownW w).toInt64)) g
def waysS (H g : Nat) : List WY → (Nat → Int64) → Nat → Int64
  | [], f => f
  | w :: ws, f => waysS H g ws (wayS H g w f)
theorem hovM_55 {h : AH} {s : Nat → Int32} {al : Int64} {lv : Int32} {R : MR} {c0 c : AC} : va_up (hovM (hov h [(55, c0)]) s al lv R) 55 (some c) = hovM (hov h [(55, c)]) s al lv R := by
  funext k
  by_cases hk : k = 55
  · subst hk; rfl
  · rw [va_up_ne _ _ hk]
    unfold hovM
    rw [hov_ne hk, hov_ne hk]
theorem cfm_55 {h : AH} {c : AC} {F34 F35 F36 : Nat → Int32} {a H : Nat} (cf : CFM h F34 F35 F36 a H) : CFM (hov h [(55, c)]) F34 F35 F36 a H := cf
set_option maxHeartbeats 4000000 in
theorem lp_ends1 {l : Launch} {G : GW} {h : AH} {n : Nat} {s : Nat → Int32} {al : Int64} (m33 : h 33 = some (MO s al)) {f0 : Nat → Int64} {Q : Option Value → AH → Nat → Prop} (kk : EW l G yX4_ends cX4_ends 5 none 4 0 0 Q 0 0 (hov h [(55, JA 100 (zerL f0 100))]) n 21 [some (.ref 33), some (.int (nI 100)), none, none, none] []) : ∀ (f k : Nat), k + f = 100 → EW l G yX4_ends cX4_ends 5 none 4 0 0 Q 0 0 (hov h [(55, JA 100 (zerL f0 k))]) n 2 [some (.ref 33), some (.int (nI k)), none, none, none] [] := by
  intro f
  induction f with
  | zero =>
    intro k  hk
    refine ew_iload_n (t := 3) dX4_ends_2 rfl rfl rfl ?_
    refine ew_bipush (t := 5) (v := 100) dX4_ends_3 (by decide) rfl ?_
    refine ew_icmp_ge (t := 21) (t2 := 8) dX4_ends_5 rfl rfl (fun c_5 => ?_) (fun c_5 => ?_)
    · rw [show k = 100 by omega]
      exact kk
    · exact absurd (show (100 : Int32) ≤ nI k by rw [show k = 100 by omega]; decide) c_5
  | succ f ih =>
    intro k  hk
    refine ew_iload_n (t := 3) dX4_ends_2 rfl rfl rfl ?_
    refine ew_bipush (t := 5) (v := 100) dX4_ends_3 (by decide) rfl ?_
    refine ew_icmp_ge (t := 21) (t2 := 8) dX4_ends_5 rfl rfl (fun c_5 => ?_) (fun c_5 => ?_)
    · exact absurd c_5 (nI_ge (b := 100) (by omega) (by omega))
    · refine ew_aload_n (t := 9) dX4_ends_8 rfl rfl rfl ?_
      refine ew_get (t := 12) (j := 30) (v := .ref 55) fcX4 m33 (Nat.le_of_ble_eq_true rfl) q1051 rfl dX4_ends_9 rfl ?_
      refine ew_iload_n (t := 13) dX4_ends_12 rfl rfl rfl ?_
      refine ew_lc0 (t := 14) dX4_ends_13 rfl ?_
      refine ew_last (t := 15) (j := k) (N := 100) (h' := (hov h [(55, JA 100 (vp_updL (zerL f0 k) k 0))])) rfl (vp_in_nI (by omega) (by omega)) (nI_clamp (by omega)) dX4_ends_14 (hov_up rfl) rfl ?_
      refine ew_iinc (t := 18) (x := (nI k)) (v := ((nI k) + 1)) (L' := [some (.ref 33), some (.int ((nI k) + 1)), none, none, none]) dX4_ends_15 rfl rfl (Nat.le_of_ble_eq_true rfl) rfl rfl ?_
      refine ew_goto (t := 2) dX4_ends_18 rfl ?_
      rw [nI_1]
      exact ih (k + 1) (by omega)
set_option maxHeartbeats 4000000 in
theorem lp_ends2 {l : Launch} {G : GW} {h : AH} {n : Nat} {s : Nat → Int32} {al : Int64} {F34 F35 F36 : Nat → Int32} {a H g : Nat} {R' : MR} {lv own : Int32} {w : WY} {f0 : Nat → Int64} {Q : Option Value → AH → Nat → Prop} (cf : CFM h F34 F35 F36 a H) (hl : lfM H R' w) (hg : F34 6 = nI g) (hg3 : g ≤ 3) (kk : ∀ o4' : Option Value, EW l G yX4_ends cX4_ends 5 none 4 0 0 Q 0 0 (hovM (hov h [(55, JA 100 (glF (nI (w.1 H)) (nI w.2.1) own.toInt64 f0 g))]) s al lv R') n 120 [some (.ref 33), some (.int (nI H)), some (.int own), some (.int (nI (g + 1))), o4'] []) : ∀ (f k : Nat) (o4 : Option Value), k + f = g → EW l G yX4_ends cX4_ends 5 none 4 0 0 Q 0 0 (hovM (hov h [(55, JA 100 (glF (nI (w.1 H)) (nI w.2.1) own.toInt64 f0 k))]) s al lv R') n 66 [some (.ref 33), some (.int (nI H)), some (.int own), some (.int (nI (k + 1))), o4] [] := by
  have hH6 := cf.2.2.2.2.2.2.2
  have hH0 := cf.2.2.2.2.2.2.1
  have hvp : nI H - 1 = nI (H - 1) := by
    obtain ⟨w, rfl⟩ : ∃ w, H = w + 1 := ⟨H - 1, by omega⟩
    exact nI_pred w
  intro f
  induction f with
  | zero =>
    intro k o4 hk
    refine ew_iload_n (t := 67) dX4_ends_66 rfl rfl rfl ?_
    refine ew_aload_n (t := 68) dX4_ends_67 rfl rfl rfl ?_
    refine ew_get (t := 71) (j := 0) (v := .ref 34) fcX4 rfl (Nat.le_of_ble_eq_true rfl) q1021 rfl dX4_ends_68 rfl ?_
    refine ew_bipush (t := 73) (v := 6) dX4_ends_71 (by decide) rfl ?_
    refine ew_iald (t := 74) (j := 6) (N := 8) cf.1 (vpI (by decide)) (by decide) dX4_ends_73 rfl ?_
    rw [hg]
    refine ew_icmp_gt (t := 120) (t2 := 77) dX4_ends_74 rfl rfl (fun c_74 => ?_) (fun c_74 => ?_)
    · rw [show k = g by omega]
      exact kk o4
    · exact absurd (nI_lt (by omega) (by omega)) c_74
  | succ f ih =>
    intro k o4 hk
    refine ew_iload_n (t := 67) dX4_ends_66 rfl rfl rfl ?_
    refine ew_aload_n (t := 68) dX4_ends_67 rfl rfl rfl ?_
    refine ew_get (t := 71) (j := 0) (v := .ref 34) fcX4 rfl (Nat.le_of_ble_eq_true rfl) q1021 rfl dX4_ends_68 rfl ?_
    refine ew_bipush (t := 73) (v := 6) dX4_ends_71 (by decide) rfl ?_
    refine ew_iald (t := 74) (j := 6) (N := 8) cf.1 (vpI (by decide)) (by decide) dX4_ends_73 rfl ?_
    rw [hg]
    refine ew_icmp_gt (t := 120) (t2 := 77) dX4_ends_74 rfl rfl (fun c_74 => ?_) (fun c_74 => ?_)
    · exact absurd c_74 (nI_nlt (by omega) (by omega))
    · refine ew_aload_n (t := 78) dX4_ends_77 rfl rfl rfl ?_
      refine ew_get (t := 81) (j := 14) (v := .ref 45) fcX4 rfl (Nat.le_of_ble_eq_true rfl) q1035 rfl dX4_ends_78 rfl ?_
      refine ew_iload_n (t := 82) dX4_ends_81 rfl rfl rfl ?_
      refine ew_iald (t := 83) (j := H) (N := 7) rfl (vp_in_nI (by omega) (by omega)) (nI_clamp (by omega)) dX4_ends_82 rfl ?_
      rw [(hl.1 H (Nat.le_refl H)).1]
      refine ew_aload_n (t := 84) dX4_ends_83 rfl rfl rfl ?_
      refine ew_get (t := 87) (j := 15) (v := .ref 46) fcX4 rfl (Nat.le_of_ble_eq_true rfl) q1036 rfl dX4_ends_84 rfl ?_
      refine ew_iload_n (t := 88) dX4_ends_87 rfl rfl rfl ?_
      refine ew_ic1 (t := 89) dX4_ends_88 rfl ?_
      refine ew_isub (t := 90) dX4_ends_89 rfl ?_
      refine ew_iald (t := 91) (j := (H - 1)) (N := 7) rfl (by rw [hvp]; exact vp_in_nI (by omega) (by omega)) (by rw [hvp]; exact nI_clamp (by omega)) dX4_ends_90 rfl ?_
      rw [hl.2.1]
      refine ew_iload_n (t := 92) dX4_ends_91 rfl rfl rfl ?_
      refine ew_callS (t := 95) (As := [_, _, _]) (am_gone  _ _ _) (lw_S q1227 q1228 q60 q1229) naX4_gone dX4_ends_92 rfl (Nat.le_of_ble_eq_true rfl) (Nat.le_of_ble_eq_true rfl) (Nat.le_refl _) (Nat.le_refl _) (Nat.le_of_ble_eq_true rfl) rfl (qi ?_)
      refine ew_istore (t := 97) (L' := [some (.ref 33), some (.int (nI H)), some (.int own), some (.int (nI (k + 1))), some (.int (goneF (nI (w.1 H)) (nI w.2.1) (nI (k + 1))))]) dX4_ends_95 (Nat.le_of_ble_eq_true rfl) rfl rfl ?_
      refine ew_iload (t := 99) dX4_ends_97 rfl rfl ?_
      refine ew_if_lt (t := 114) (t2 := 102) dX4_ends_99 rfl rfl (fun c_99 => ?_) (fun c_99 => ?_)
      · refine ew_iinc (t := 117) (x := (nI (k + 1))) (v := ((nI (k + 1)) + 1)) (L' := [some (.ref 33), some (.int (nI H)), some (.int own), some (.int ((nI (k + 1)) + 1)), some (.int (goneF (nI (w.1 H)) (nI w.2.1) (nI (k + 1))))]) dX4_ends_114 rfl rfl (Nat.le_of_ble_eq_true rfl) rfl rfl ?_
        refine ew_goto (t := 66) dX4_ends_117 rfl ?_
        rw [nI_1]
        have e9 : glF (nI (w.1 H)) (nI w.2.1) own.toInt64 f0 (k + 1) = (glF (nI (w.1 H)) (nI w.2.1) own.toInt64 f0 k) := by show (if _ then _ else _) = _; rw [if_pos c_99]
        rw [← e9]
        exact ih (k + 1) _ (by omega)
      · obtain ⟨b1, hb1, eb1⟩ := goneF_nn c_99
        refine ew_aload_n (t := 103) dX4_ends_102 rfl rfl rfl ?_
        refine ew_get (t := 106) (j := 30) (v := .ref 55) fcX4 rfl (Nat.le_of_ble_eq_true rfl) q1051 rfl dX4_ends_103 rfl ?_
        refine ew_iload (t := 108) dX4_ends_106 rfl rfl ?_
        refine ew_dup2 (t := 109) dX4_ends_108 rfl rfl rfl ?_
        refine ew_lald (t := 110) (j := b1) (N := 100) rfl (by rw [eb1]; exact vp_in_nI (by omega) (by omega)) (by rw [eb1]; exact nI_clamp (by omega)) dX4_ends_109 rfl ?_
        refine ew_iload_n (t := 111) dX4_ends_110 rfl rfl rfl ?_
        refine ew_i2l (t := 112) dX4_ends_111 rfl ?_
        refine ew_ladd (t := 113) dX4_ends_112 rfl ?_
        refine ew_last (t := 114) (j := b1) (N := 100) (h' := (hovM (hov h [(55, JA 100 (vp_updL (glF (nI (w.1 H)) (nI w.2.1) own.toInt64 f0 k) b1 (((glF (nI (w.1 H)) (nI w.2.1) own.toInt64 f0 k) b1) + own.toInt64)))]) s al lv R')) rfl (by rw [eb1]; exact vp_in_nI (by omega) (by omega)) (by rw [eb1]; exact nI_clamp (by omega)) dX4_ends_113 hovM_55 rfl ?_
        refine ew_iinc (t := 117) (x := (nI (k + 1))) (v := ((nI (k + 1)) + 1)) (L' := [some (.ref 33), some (.int (nI H)), some (.int own), some (.int ((nI (k + 1)) + 1)), some (.int (goneF (nI (w.1 H)) (nI w.2.1) (nI (k + 1))))]) dX4_ends_114 rfl rfl (Nat.le_of_ble_eq_true rfl) rfl rfl ?_
        refine ew_goto (t := 66) dX4_ends_117 rfl ?_
        rw [nI_1]
        have e9 : glF (nI (w.1 H)) (nI w.2.1) own.toInt64 f0 (k + 1) = vp_updL (glF (nI (w.1 H)) (nI w.2.1) own.toInt64 f0 k) b1 ((glF (nI (w.1 H)) (nI w.2.1) own.toInt64 f0 k) b1 + own.toInt64) := by show (if _ then _ else _) = _; rw [if_neg c_99, eb1, nI_clamp (n := b1) (by omega)]
        rw [← e9]
        exact ih (k + 1) _ (by omega)
