-- Obj fields dict_keys(['cls', 'fun', 'sname', 'refs', 'extra', 'ups'])
/-! the reference: film -/
set_option maxRecDepth 100000
def flI (f : Nat → Int32) (w : WY) (b : Nat) : Nat → Nat → Int32
  | 0 => f
  | k + 1 => upd (flI f w b k) (b + k) (nI (w.1 k))
def flO (s : Nat → Int32) (F : Nat → Nat → Int32) (H b : Nat) (o : Option WY) : OR := match o with
  | none => (-2, s, F)
  | some w => (nI (H + 1), s, va_up F 61 (flI (F 61) w b (H + 1)))
def flmP (s : Nat → Int32) (F : Nat → Nat → Int32) (H : Nat) (ws : List WY) (ki c lane i : Int32) : OR := if ki < 0 then (-1, s, F) else if b2i (inI c 0 3) = 0 then (-1, s, F) else if ¬ b2i (inI lane 0 2) = 0 then (if 0 ≤ refI (F 59) (F 60) c.toNatClampNeg lane i (nI (H + 1)) then flO s F H (16 * c.toNatClampNeg + i.toNatClampNeg) ws[ki.toNatClampNeg]? else (refI (F 59) (F 60) c.toNatClampNeg lane i (nI (H + 1)), s, F)) else (-1, s, F)
theorem keep_up {F F' : Nat → Nat → Int32} {c : Nat} {f : Nat → Int32} (e : ∀ k, perM k = true → F' k = F k) : ∀ k, perM k = true → va_up F' c f k = va_up F c f k := by
  intro k hk
  by_cases q : k = c
  · rw [q, va_up_self, va_up_self]
  · rw [va_up_ne _ _ q, va_up_ne _ _ q]; exact e k hk

set_option maxHeartbeats 4000000 in
theorem lp_film {l : Launch} {G : GW} {h : AH} {n : Nat} {s : Nat → Int32} {al : Int64} {F34 F45 f0 : Nat → Int32} {H t i : Nat} {w : WY} {ki lane why : Int32} {Q : Option Value → AH → Nat → Prop} (m33 : h 33 = some (MO s al)) (m34 : h 34 = some (IA 8 F34)) (m45 : h 45 = some (IA 7 F45)) (hH : F34 2 = nI H) (hH6 : H ≤ 6) (hc : ∀ j, j ≤ H → F45 j = nI (w.1 j)) (ht : t < 4) (hi : i + (H + 1) ≤ 16) (hq : Q (some (.int (nI (H + 1)))) (hov h [(61, IA 64 (flI f0 w (16 * t + i) (H + 1)))]) n) : ∀ (f k : Nat), k + f = H + 1 → EW l G yX4_film cX4_film 7 (some .int) 5 0 0 Q 0 0 (hov h [(61, IA 64 (flI f0 w (16 * t + i) k))]) n 60 [some (.ref 33), some (.int ki), some (.int (nI t)), some (.int lane), some (.int (nI i)), some (.int why), some (.int (nI k))] [] := by
  intro f
  induction f with
  | zero =>
    intro k  hk
    refine ew_iload (t := 62) dX4_film_60 rfl rfl ?_
    refine ew_aload_n (t := 63) dX4_film_62 rfl rfl rfl ?_
    refine ew_get (t := 66) (j := 0) (v := .ref 34) fcX4 m33 (Nat.le_of_ble_eq_true rfl) q1021 rfl dX4_film_63 rfl ?_
    refine ew_ic2 (t := 67) dX4_film_66 rfl ?_
    refine ew_iald (t := 68) (j := 2) (N := 8) m34 (vpI (by decide)) (by decide) dX4_film_67 rfl ?_
    rw [hH]
    refine ew_icmp_gt (t := 99) (t2 := 71) dX4_film_68 rfl rfl (fun c_68 => ?_) (fun c_68 => ?_)
    · refine ew_aload_n (t := 100) dX4_film_99 rfl rfl rfl ?_
      refine ew_get (t := 103) (j := 0) (v := .ref 34) fcX4 m33 (Nat.le_of_ble_eq_true rfl) q1021 rfl dX4_film_100 rfl ?_
      refine ew_ic2 (t := 104) dX4_film_103 rfl ?_
      refine ew_iald (t := 105) (j := 2) (N := 8) m34 (vpI (by decide)) (by decide) dX4_film_104 rfl ?_
      rw [hH]
      refine ew_ic1 (t := 106) dX4_film_105 rfl ?_
      refine ew_iadd (t := 107) dX4_film_106 rfl ?_
      rw [nI_1]
      exact ew_iret rfl dX4_film_107 (Nat.le_refl _) (Nat.le_refl _) (by rw [show k = H + 1 by omega]; exact hq)
    · exact absurd (nI_lt (a := H) (b := k) (by omega) (by omega)) c_68
  | succ f ih =>
    intro k  hk
    refine ew_iload (t := 62) dX4_film_60 rfl rfl ?_
    refine ew_aload_n (t := 63) dX4_film_62 rfl rfl rfl ?_
    refine ew_get (t := 66) (j := 0) (v := .ref 34) fcX4 m33 (Nat.le_of_ble_eq_true rfl) q1021 rfl dX4_film_63 rfl ?_
    refine ew_ic2 (t := 67) dX4_film_66 rfl ?_
    refine ew_iald (t := 68) (j := 2) (N := 8) m34 (vpI (by decide)) (by decide) dX4_film_67 rfl ?_
    rw [hH]
    refine ew_icmp_gt (t := 99) (t2 := 71) dX4_film_68 rfl rfl (fun c_68 => ?_) (fun c_68 => ?_)
    · exact absurd c_68 (nI_nlt (a := H) (b := k) (by omega) (by omega))
    · refine ew_aload_n (t := 72) dX4_film_71 rfl rfl rfl ?_
      refine ew_get (t := 75) (j := 40) (v := .ref 61) fcX4 m33 (Nat.le_of_ble_eq_true rfl) q1061 rfl dX4_film_72 rfl ?_
      refine ew_bipush (t := 77) (v := 16) dX4_film_75 (by decide) rfl ?_
      refine ew_iload_n (t := 78) dX4_film_77 rfl rfl rfl ?_
      refine ew_imul (t := 79) dX4_film_78 rfl ?_
      refine ew_iload (t := 81) dX4_film_79 rfl rfl ?_
      refine ew_iadd (t := 82) dX4_film_81 rfl ?_
      refine ew_iload (t := 84) dX4_film_82 rfl rfl ?_
      refine ew_iadd (t := 85) dX4_film_84 rfl ?_
      rw [show (16 : Int32) * nI t + nI i + nI k = nI (16 * t + i + k) from by rw [show (16 : Int32) = nI 16 from rfl, pk_mul, nI_add, nI_add]]
      refine ew_aload_n (t := 86) dX4_film_85 rfl rfl rfl ?_
      refine ew_get (t := 89) (j := 14) (v := .ref 45) fcX4 m33 (Nat.le_of_ble_eq_true rfl) q1035 rfl dX4_film_86 rfl ?_
      refine ew_iload (t := 91) dX4_film_89 rfl rfl ?_
      refine ew_iald (t := 92) (j := k) (N := 7) m45 (vp_in_nI (by omega) (by omega)) (nI_clamp (by omega)) dX4_film_91 rfl ?_
      rw [hc k (by omega)]
      refine ew_iast (t := 93) (j := (16 * t + i + k)) (N := 64) (h' := (hov h [(61, IA 64 (upd (flI f0 w (16 * t + i) k) (16 * t + i + k) (nI (w.1 k))))])) rfl (vp_in_nI (by omega) (by omega)) (nI_clamp (by omega)) dX4_film_92 (hov_up rfl) rfl ?_
      refine ew_iinc (t := 96) (x := (nI k)) (v := ((nI k) + 1)) (L' := [some (.ref 33), some (.int ki), some (.int (nI t)), some (.int lane), some (.int (nI i)), some (.int why), some (.int ((nI k) + 1))]) dX4_film_93 rfl rfl (Nat.le_of_ble_eq_true rfl) rfl rfl ?_
      refine ew_goto (t := 60) dX4_film_96 rfl ?_
      rw [nI_1]
      exact ih (k + 1) (by omega)
set_option maxHeartbeats 4000000 in
theorem mc_film {l : Launch} {G : GW} {h : AH} {n : Nat} {s : Nat → Int32} {al : Int64} {F : Nat → Nat → Int32} {FL : Nat → Int64} {a H g np nd : Nat} (mc : MC s al F FL h) (mk : MKc s F a H g np nd) {ws : List WY} (hE : ∀ R, EnM (F 34) (F 35) (F 36) 0 0 0 a H ws 0 (begR (F 34 1) R)) (hSZ : ∀ t, t < 4 → ∃ z, z ≤ 16 ∧ F 60 t = nI z) (ki c lane i : Int32) : AM l G yX4_film cX4_film 7 (some .int) 5 0 0 [.ref 33, .int ki, .int c, .int lane, .int i] h n (OpR h n (flmP s F H ws ki c lane i)) := by
  refine AM.of (L := [some (.ref 33), some (.int ki), some (.int c), some (.int lane), some (.int i), none, none]) (by decide) (Nat.le_of_ble_eq_true rfl) rfl ?_
  refine ew_iload_n (t := 1) dX4_film_0 rfl rfl rfl ?_
  refine ew_if_lt (t := 18) (t2 := 4) dX4_film_1 rfl rfl (fun c_1 => ?_) (fun c_1 => ?_)
  · refine ew_icm1 (t := 19) dX4_film_18 rfl ?_
    exact ew_iret rfl dX4_film_19 (Nat.le_refl _) (Nat.le_refl _) (by unfold flmP; rw [if_pos c_1]; exact OpR.same mc)
  · refine ew_iload_n (t := 5) dX4_film_4 rfl rfl rfl ?_
    refine ew_callS (t := 8) (As := [_]) (am_isSheet  _) (lw_S q1361 q1362 q60 q1363) naX4_isSheet dX4_film_5 rfl (Nat.le_of_ble_eq_true rfl) (Nat.le_of_ble_eq_true rfl) (Nat.le_refl _) (Nat.le_refl _) (Nat.le_of_ble_eq_true rfl) rfl (qi ?_)
    refine ew_if_eq (t := 18) (t2 := 11) dX4_film_8 rfl rfl (fun c_8 => ?_) (fun c_8 => ?_)
    · refine ew_icm1 (t := 19) dX4_film_18 rfl ?_
      exact ew_iret rfl dX4_film_19 (Nat.le_refl _) (Nat.le_refl _) (by unfold flmP; rw [if_neg c_1, if_pos c_8]; exact OpR.same mc)
    · refine ew_iload_n (t := 12) dX4_film_11 rfl rfl rfl ?_
      refine ew_callS (t := 15) (As := [_]) (am_isLane  _) (lw_S q1365 q1366 q60 q1367) naX4_isLane dX4_film_12 rfl (Nat.le_of_ble_eq_true rfl) (Nat.le_of_ble_eq_true rfl) (Nat.le_refl _) (Nat.le_refl _) (Nat.le_of_ble_eq_true rfl) rfl (qi ?_)
      refine ew_if_ne (t := 20) (t2 := 18) dX4_film_15 rfl rfl (fun c_15 => ?_) (fun c_15 => ?_)
      · obtain ⟨ii, hii, rfl⟩ := nI_of c_1
        have hH6 := mk.2.2.2.2.2.1
        obtain ⟨t, ht0, ht, rfl⟩ := inI_nat (c := c) (lo := 0) (hi := 3) (by decide) (by decide) (b2i_1.mp c_8)
        refine ew_aload_n (t := 21) dX4_film_20 rfl rfl rfl ?_
        refine ew_iload_n (t := 22) dX4_film_21 rfl rfl rfl ?_
        refine ew_iload_n (t := 23) dX4_film_22 rfl rfl rfl ?_
        refine ew_iload (t := 25) dX4_film_23 rfl rfl ?_
        refine ew_aload_n (t := 26) dX4_film_25 rfl rfl rfl ?_
        refine ew_get (t := 29) (j := 0) (v := .ref 34) fcX4 mc.1 (Nat.le_of_ble_eq_true rfl) q1021 rfl dX4_film_26 rfl ?_
        refine ew_ic2 (t := 30) dX4_film_29 rfl ?_
        refine ew_iald (t := 31) (j := 2) (N := 8) (mI mc 34 rfl) (vpI (by decide)) (by decide) dX4_film_30 rfl ?_
        rw [mk.2.2.2.1]
        refine ew_ic1 (t := 32) dX4_film_31 rfl ?_
        refine ew_iadd (t := 33) dX4_film_32 rfl ?_
        rw [nI_1]
        refine ew_callV (t := 36) (As := [_, _, _, _]) (am_refuses (h := h) (t := t) mc (by omega) lane i (nI (H + 1))) (fcX4).1 mc.1 (lw_V q1368 q1370 qs48 q60 q1371) rfl naX4_refuses dX4_film_33 rfl (Nat.le_of_ble_eq_true rfl) (Nat.le_of_ble_eq_true rfl) (Nat.le_refl _) (Nat.le_refl _) (Nat.le_of_ble_eq_true rfl) rfl (qi ?_)
        refine ew_istore (t := 38) (L' := [some (.ref 33), some (.int (nI ii)), some (.int (nI t)), some (.int lane), some (.int i), some (.int (refI (F 59) (F 60) t lane i (nI (H + 1)))), none]) dX4_film_36 (Nat.le_of_ble_eq_true rfl) rfl rfl ?_
        refine ew_iload (t := 40) dX4_film_38 rfl rfl ?_
        refine ew_if_ge (t := 46) (t2 := 43) dX4_film_40 rfl rfl (fun c_40 => ?_) (fun c_40 => ?_)
        · obtain ⟨z, hz, eZ⟩ := hSZ t (by omega)
          obtain ⟨eL, k, rfl, hk⟩ := refI_ok (m := H + 1) (by omega) hz eZ c_40
          refine ew_aload_n (t := 47) dX4_film_46 rfl rfl rfl ?_
          refine ew_iload_n (t := 48) dX4_film_47 rfl rfl rfl ?_
          refine ew_callV (t := 51) (As := [_]) (mc_finds mc mk hE hii) (fcX4).1 mc.1 (lw_V q1253 q1255 qs39 q60 q1256) rfl naX4_finds dX4_film_48 rfl (Nat.le_of_ble_eq_true rfl) (Nat.le_of_ble_eq_true rfl) (Nat.le_refl _) (Nat.le_refl _) (Nat.le_of_ble_eq_true rfl) rfl (fun r h1 n1 q => ?_)
          obtain ⟨rfl, qn, q3, s', F', q4, q5, q6, q7⟩ := q
          replace qn := qn.symm
          subst qn
          refine ew_if_ne (t := 57) (t2 := 54) dX4_film_51 rfl rfl (fun c_51 => ?_) (fun c_51 => ?_)
          · refine ew_ic0 (t := 58) dX4_film_57 rfl ?_
            refine ew_istore (t := 60) (L' := [some (.ref 33), some (.int (nI ii)), some (.int (nI t)), some (.int lane), some (.int (nI k)), some (.int (refI (F 59) (F 60) t lane (nI k) (nI (H + 1)))), some (.int 0)]) dX4_film_58 (Nat.le_of_ble_eq_true rfl) rfl rfl ?_
            obtain ⟨w, ew⟩ := Option.isSome_iff_exists.mp (b2i_1.mp c_51)
            have hl := q7 w ew
            refine EW.heap (h' := hov h1 [(61, IA 64 (F' 61))]) (hov_same (h := h1) (mI q4 61 rfl)).symm ?_
            refine lp_film (w := w) (t := t) (i := k) q4.1 (mI q4 34 rfl) (mI q4 45 rfl) (by rw [q5 34 (by omega)]; exact mk.2.2.2.1) hH6 (fun j hj => (hl.1 j hj).1) (by omega) (by omega) ?_ (H + 1) 0 (by omega)
            unfold flmP
            rw [if_neg c_1, if_neg c_8, if_pos c_15, nI_clamp (n := t) (by omega), if_pos c_40, nI_clamp (n := k) (by omega), nI_clamp (n := ii) (by omega), ew]
            refine ⟨rfl, rfl, fun k hk => (hov_fr 33 63 rfl k hk).trans (q3 k hk), s', al, _, FL, MC_I (c := 61) rfl (l := []) q4, ?_, q6 7 (by decide) (by decide) (by decide) (by decide), q6 25 (by decide) (by decide) (by decide) (by decide), q6 27 (by decide) (by decide) (by decide) (by decide), q6 37 (by decide) (by decide) (by decide) (by decide)⟩
            rw [q5 61 (by omega)]
            exact keep_up (fun k hk => q5 k (perM_r hk))
          · refine ew_bipush (t := 56) (v := (-2)) dX4_film_54 (by decide) rfl ?_
            exact ew_iret rfl dX4_film_56 (Nat.le_refl _) (Nat.le_refl _) (by unfold flmP; rw [if_neg c_1, if_neg c_8, if_pos c_15, nI_clamp (n := t) (by omega), if_pos c_40, nI_clamp (n := ii) (by omega), show ws[ii]? = none from Option.isSome_eq_false_iff.mp (b2i_0.mp c_51) |> Option.isNone_iff_eq_none.mp]; exact OpQ.fnd q3 q4 q5 q6 rfl)
        · refine ew_iload (t := 45) dX4_film_43 rfl rfl ?_
          exact ew_iret rfl dX4_film_45 (Nat.le_refl _) (Nat.le_refl _) (by unfold flmP; rw [if_neg c_1, if_neg c_8, if_pos c_15, nI_clamp (n := t) (by omega), if_neg c_40]; exact OpR.same mc)
      · refine ew_icm1 (t := 19) dX4_film_18 rfl ?_
        exact ew_iret rfl dX4_film_19 (Nat.le_refl _) (Nat.le_refl _) (by unfold flmP; rw [if_neg c_1, if_neg c_8, if_neg (not_not_intro c_15)]; exact OpR.same mc)
