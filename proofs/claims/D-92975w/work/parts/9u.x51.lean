-- Obj fields dict_keys(['cls', 'fun', 'sname', 'refs', 'extra', 'ups'])
/-! the component: sea -/
set_option maxRecDepth 100000
def scN (rd : Nat → Int32) : Nat → Int32
  | 0 => 0
  | k + 1 => scN rd k + (if 8 ≤ rd k then 0 else 1)
theorem scN_congr {a b : Nat → Int32} : ∀ k, (∀ j, j < k → a j = b j) → scN a k = scN b k
  | 0, _ => rfl
  | k + 1, h => by rw [scN, scN, scN_congr k (fun j hj => h j (by omega)), h k (by omega)]
theorem seS_sc {T : Nat → Int32} {tp : Nat} {f : Nat → Int32} : ∀ k, (seS T tp f k).2.2.1 = scN (seS T tp f k).2.2.2 k ∧ ∀ j, j < k → ∃ z, z ≤ 8 ∧ (seS T tp f k).2.2.2 j = nI z
  | 0 => ⟨rfl, fun j hj => by omega⟩
  | k + 1 => by
    obtain ⟨h1, h2⟩ := seS_sc (T := T) (tp := tp) (f := f) k
    have e : (seS T tp f (k + 1)).2.2.2 = upd (seS T tp f k).2.2.2 k (dgR T tp (seS T tp f k).1 (seS T tp f k).2.1 0 8).1 := rfl
    constructor
    · rw [scN, e, pk_us, scN_congr (b := (seS T tp f k).2.2.2) k (fun j hj => pk_un (by omega)), ← h1]
      rfl
    · intro j hj
      rw [e]
      by_cases c : j = k
      · subst c; rw [pk_us]; exact dgR_8
      · rw [pk_un c]; exact h2 j (by omega)
set_option maxHeartbeats 600000 in
theorem lx_sea2 {l : Launch} {G : GW} {h : AH} {n : Nat} {s : Nat → Int32} {g0 rd : Nat → Int32} {q r : Nat} {p : Int32} {Q : Option Value → AH → Nat → Prop} (x2 : h 2 = some TO0) (hrd : ∀ j, j < 10 → ∃ z, z ≤ 8 ∧ rd j = nI z) (hq2 : q < 2) (hr : r < 10) (hq : Q (some (.int (scN rd 10))) (hov h [(1, XO s), (11, FO p), (15, BA 10 rd), (6, BA 200 (cpI g0 rd (100 * q + 10 * r) 10))]) n) : ∀ (f k : Nat), k + f = 10 → EW l G yX0_sea cX0_sea 5 (some .int) 4 0 0 Q 0 0 (hov h [(1, OB 0 (XOf s)), (11, OB 2 [.null, .null, .null, .null, .null, .int 0, .int p]), (15, BA 10 rd), (6, BA 200 (cpI g0 rd (100 * q + 10 * r) k))]) n 52 [some (.ref 1), some (.int (nI q)), some (.int (nI r)), some (.int (scN rd k)), some (.int (nI k))] [] := by
  intro f
  induction f with
  | zero =>
    intro k  hk
    refine ew_iload (t := 54) dX0_sea_52 rfl rfl ?_
    refine ew_bipush (t := 56) (v := 10) dX0_sea_54 (by decide) rfl ?_
    refine ew_icmp_ge (t := 112) (t2 := 59) dX0_sea_56 rfl rfl (fun c_56 => ?_) (fun c_56 => ?_)
    · refine ew_iload_n (t := 113) dX0_sea_112 rfl rfl rfl ?_
      exact ew_iret rfl dX0_sea_113 (Nat.le_refl _) (Nat.le_refl _) (by rw [show k = 10 by omega]; exact hq)
    · exact absurd (show (10 : Int32) ≤ nI k by rw [show k = 10 by omega]; decide) c_56
  | succ f ih =>
    intro k  hk
    refine ew_iload (t := 54) dX0_sea_52 rfl rfl ?_
    refine ew_bipush (t := 56) (v := 10) dX0_sea_54 (by decide) rfl ?_
    refine ew_icmp_ge (t := 112) (t2 := 59) dX0_sea_56 rfl rfl (fun c_56 => ?_) (fun c_56 => ?_)
    · exact absurd c_56 (nI_ge (b := 10) (by omega) (by omega))
    · refine ew_aload_n (t := 60) dX0_sea_59 rfl rfl rfl ?_
      refine ew_get (t := 63) (j := 0) (v := .ref 2) fcX0 rfl (Nat.le_of_ble_eq_true rfl) q255 rfl dX0_sea_60 rfl ?_
      refine ew_getN (t := 66) (j := 3) (v := .ref 6) fcX1 x2 (Nat.le_of_ble_eq_true rfl) q133 rfl dX0_sea_63 rfl ?_
      refine ew_bipush (t := 68) (v := 100) dX0_sea_66 (by decide) rfl ?_
      refine ew_iload_n (t := 69) dX0_sea_68 rfl rfl rfl ?_
      refine ew_imul (t := 70) dX0_sea_69 rfl ?_
      refine ew_bipush (t := 72) (v := 10) dX0_sea_70 (by decide) rfl ?_
      refine ew_iload_n (t := 73) dX0_sea_72 rfl rfl rfl ?_
      refine ew_imul (t := 74) dX0_sea_73 rfl ?_
      refine ew_iadd (t := 75) dX0_sea_74 rfl ?_
      refine ew_iload (t := 77) dX0_sea_75 rfl rfl ?_
      refine ew_iadd (t := 78) dX0_sea_77 rfl ?_
      rw [show (100 : Int32) * nI q + 10 * nI r + nI k = nI (100 * q + 10 * r + k) from by rw [show (100 : Int32) = nI 100 from rfl, show (10 : Int32) = nI 10 from rfl, pk_mul, pk_mul, nI_add, nI_add]]
      refine ew_aload_n (t := 79) dX0_sea_78 rfl rfl rfl ?_
      refine ew_get (t := 82) (j := 7) (v := .ref 15) fcX0 rfl (Nat.le_of_ble_eq_true rfl) q262 rfl dX0_sea_79 rfl ?_
      refine ew_iload (t := 84) dX0_sea_82 rfl rfl ?_
      refine ew_bald (t := 85) (j := k) (N := 10) rfl (vp_in_nI (by omega) (by omega)) (nI_clamp (by omega)) dX0_sea_84 rfl ?_
      refine ew_bast (t := 86) (j := (100 * q + 10 * r + k)) (N := 200) (h' := (hov h [(1, OB 0 (XOf s)), (11, OB 2 [.null, .null, .null, .null, .null, .int 0, .int p]), (15, BA 10 rd), (6, BA 200 (upd (cpI g0 rd (100 * q + 10 * r) k) (100 * q + 10 * r + k) (vp_nar .byte (rd k))))])) rfl (vp_in_nI (by omega) (by omega)) (nI_clamp (by omega)) dX0_sea_85 (hov_up rfl) rfl ?_
      refine ew_iload_n (t := 87) dX0_sea_86 rfl rfl rfl ?_
      refine ew_aload_n (t := 88) dX0_sea_87 rfl rfl rfl ?_
      refine ew_get (t := 91) (j := 7) (v := .ref 15) fcX0 rfl (Nat.le_of_ble_eq_true rfl) q262 rfl dX0_sea_88 rfl ?_
      refine ew_iload (t := 93) dX0_sea_91 rfl rfl ?_
      refine ew_bald (t := 94) (j := k) (N := 10) rfl (vp_in_nI (by omega) (by omega)) (nI_clamp (by omega)) dX0_sea_93 rfl ?_
      refine ew_bipush (t := 96) (v := 8) dX0_sea_94 (by decide) rfl ?_
      have J104 : ∀ (j104_0 : Int32), j104_0 = ((if 8 ≤ (rd k) then 0 else 1) : Int32) → EW l G yX0_sea cX0_sea 5 (some .int) 4 0 0 Q 0 0 (hov h [(1, OB 0 (XOf s)), (11, OB 2 [.null, .null, .null, .null, .null, .int 0, .int p]), (15, BA 10 rd), (6, BA 200 (upd (cpI g0 rd (100 * q + 10 * r) k) (100 * q + 10 * r + k) (vp_nar .byte (rd k))))]) n 104 [some (.ref 1), some (.int (nI q)), some (.int (nI r)), some (.int (scN rd k)), some (.int (nI k))] [.int j104_0, .int (scN rd k)] := by
        intro j104_0 hj104_0
        refine ew_iadd (t := 105) dX0_sea_104 rfl ?_
        refine ew_istore_n (t := 106) (L' := [some (.ref 1), some (.int (nI q)), some (.int (nI r)), some (.int ((scN rd k) + j104_0)), some (.int (nI k))]) dX0_sea_105 rfl (Nat.le_of_ble_eq_true rfl) rfl rfl ?_
        refine ew_iinc (t := 109) (x := (nI k)) (v := ((nI k) + 1)) (L' := [some (.ref 1), some (.int (nI q)), some (.int (nI r)), some (.int ((scN rd k) + j104_0)), some (.int ((nI k) + 1))]) dX0_sea_106 rfl rfl (Nat.le_of_ble_eq_true rfl) rfl rfl ?_
        refine ew_goto (t := 52) dX0_sea_109 rfl ?_
        rw [nI_1]
        subst hj104_0
        obtain ⟨z, hz, ez⟩ := hrd k (by omega)
        rw [show vp_nar .byte (rd k) = rd k from by rw [ez]; exact nar_s z (by omega)]
        exact ih (k + 1) (by omega)
      refine ew_icmp_ge (t := 103) (t2 := 99) dX0_sea_96 rfl rfl (fun c_96 => ?_) (fun c_96 => ?_)
      · refine ew_ic0 (t := 104) dX0_sea_103 rfl ?_
        exact J104 0 (by simp only [if_pos c_96])
      · refine ew_ic1 (t := 100) dX0_sea_99 rfl ?_
        refine ew_goto (t := 104) dX0_sea_100 rfl ?_
        exact J104 1 (by simp only [if_neg c_96])
theorem seaE_w {s : Nat → Int32} {F : Nat → Nat → Int32} {tp b : Nat} {f0 : Nat → Int32} (h : seW (F 40) tp (seS (F 40) tp f0 10) = true) : seaE s F tp b (seS (F 40) tp (F 43) 10) = (-20 - nI (seP (F 40) tp (seS (F 40) tp f0 10)), upd s 7 0, F) := by
  obtain ⟨e1, e2, e3, e4⟩ := seS_f (T := F 40) (tp := tp) (f := F 43) (g := f0) 10
  unfold seaE seP
  rw [e1, e2]
  by_cases c : (seS (F 40) tp f0 10).2.1 = 0
  · rw [if_neg (not_not_intro c), if_pos c, if_neg (fun q => by
      unfold seW at h
      rw [decide_eq_true c, decide_eq_true q] at h
      exact absurd h (by decide))]
  · rw [if_pos c, if_neg c]
theorem seaE_r {s : Nat → Int32} {F : Nat → Nat → Int32} {tp b : Nat} {f0 : Nat → Int32} (h : seW (F 40) tp (seS (F 40) tp f0 10) = false) : seaE s F tp b (seS (F 40) tp (F 43) 10) = (scN (seS (F 40) tp f0 10).2.2.2 10, upd s 7 0, va_up F 37 (cpI (F 37) (seS (F 40) tp f0 10).2.2.2 b 10)) := by
  obtain ⟨e1, e2, e3, e4⟩ := seS_f (T := F 40) (tp := tp) (f := F 43) (g := f0) 10
  unfold seW at h
  have h1 : (seS (F 40) tp f0 10).2.1 = 0 := by
    refine Decidable.byContradiction (fun q => ?_)
    rw [decide_eq_false q, Bool.false_and] at h
    exact absurd h (by decide)
  have h2 : hrC (F 40) tp (hrN (F 40) tp (seS (F 40) tp f0 10).1) = 0 := by
    refine Decidable.byContradiction (fun q => ?_)
    rw [decide_eq_false q, Bool.and_false] at h
    exact absurd h (by decide)
  unfold seaE
  rw [e1, e2, if_neg (not_not_intro h1), if_pos h2, e3, (seS_sc 10).1, cpI_congr 10 e4]
theorem sea_sc {h : AH} {c1 c11 : AC} {f : Nat → Int32} {c6 : AC} (sc : scX h) : scX (hov h [(1, c1), (11, c11), (15, BA 10 f), (6, c6)]) := ⟨sc.1, sc.2.1, ⟨f, rfl⟩, sc.2.2.2.1, sc.2.2.2.2.1, sc.2.2.2.2.2⟩
theorem sea_sc3 {h : AH} {c1 c11 : AC} {f : Nat → Int32} (sc : scX h) : scX (hov h [(1, c1), (11, c11), (15, BA 10 f)]) := ⟨sc.1, sc.2.1, ⟨f, rfl⟩, sc.2.2.2.1, sc.2.2.2.2.1, sc.2.2.2.2.2⟩
set_option maxHeartbeats 600000 in
theorem xc_sea {l : Launch} {G : GW} {h : AH} {n : Nat} {s sm : Nat → Int32} {F : Nat → Nat → Int32} {tp : Nat} {p0 : Int32} (x1 : h 1 = some (XO s)) (x11 : h 11 = some (FO p0)) (x12 : h 12 = some (BA 60 (F 40))) (xt : XT F h) (sc : scX h) (h3 : s 3 = nI tp) (h7 : sm 7 = nI tp) (htp : tp ≤ 60) (hT : okT (F 40) tp) (se ro : Int32) : AMW l G yX0_sea cX0_sea 5 (some .int) 4 0 0 [.ref 1, .int se, .int ro] h n (XYQ s h n (seaP sm F tp se ro)) := by
  refine AMW.of (L := [some (.ref 1), some (.int se), some (.int ro), none, none]) (by decide) (Nat.le_of_ble_eq_true rfl) rfl ?_
  refine ew_iload_n (t := 1) dX0_sea_0 rfl rfl rfl ?_
  refine ew_ic0 (t := 2) dX0_sea_1 rfl ?_
  refine ew_ic1 (t := 3) dX0_sea_2 rfl ?_
  refine ew_callS (t := 6) (As := [_, _, _]) (ax_isIn _ _ _) (lw_S q330 q331 q51 q332) naX0_isIn dX0_sea_3 rfl (Nat.le_of_ble_eq_true rfl) (Nat.le_of_ble_eq_true rfl) (Nat.le_refl _) (Nat.le_refl _) (Nat.le_of_ble_eq_true rfl) rfl (qi ?_)
  refine ew_if_eq (t := 19) (t2 := 9) dX0_sea_6 rfl rfl (fun c_6 => ?_) (fun c_6 => ?_)
  · refine ew_icm1 (t := 20) dX0_sea_19 rfl ?_
    exact ew_iret rfl dX0_sea_20 (Nat.le_refl _) (Nat.le_refl _) (by unfold seaP; rw [show inL se.toInt64 0 1 = inI se 0 1 from inL_I se 0 1, show inL ro.toInt64 0 9 = inI ro 0 9 from inL_I ro 0 9, if_pos c_6]; exact XYQ.same x1 (h3.trans h7.symm) x11 x12 xt sc)
  · refine ew_iload_n (t := 10) dX0_sea_9 rfl rfl rfl ?_
    refine ew_ic0 (t := 11) dX0_sea_10 rfl ?_
    refine ew_bipush (t := 13) (v := 9) dX0_sea_11 (by decide) rfl ?_
    refine ew_callS (t := 16) (As := [_, _, _]) (ax_isIn _ _ _) (lw_S q330 q331 q51 q332) naX0_isIn dX0_sea_13 rfl (Nat.le_of_ble_eq_true rfl) (Nat.le_of_ble_eq_true rfl) (Nat.le_refl _) (Nat.le_refl _) (Nat.le_of_ble_eq_true rfl) rfl (qi ?_)
    refine ew_if_ne (t := 21) (t2 := 19) dX0_sea_16 rfl rfl (fun c_16 => ?_) (fun c_16 => ?_)
    · obtain ⟨q, -, hq, rfl⟩ := inI_nat (c := se) (lo := 0) (hi := 1) (by omega) (by omega) (b2i_1.mp c_6)
      obtain ⟨r, -, hr, rfl⟩ := inI_nat (c := ro) (lo := 0) (hi := 9) (by omega) (by omega) (b2i_1.mp c_16)
      obtain ⟨f0, x15⟩ := sc.2.2.1
      have hQ : seaP sm F tp (nI q) (nI r) = seaE sm F tp (100 * q + 10 * r) (seS (F 40) tp (F 43) 10) := by
        unfold seaP
        rw [show inL (nI q).toInt64 0 1 = inI (nI q) 0 1 from inL_I (nI q) 0 1, show inL (nI r).toInt64 0 9 = inI (nI r) 0 9 from inL_I (nI r) 0 9, if_neg c_6, if_pos c_16, nI_clamp (n := q) (by omega), nI_clamp (n := r) (by omega)]
      have HD : ∀ (pp : Int32) (ff : Nat → Int32), seW (F 40) tp (seS (F 40) tp f0 10) = true → pp = nI (seP (F 40) tp (seS (F 40) tp f0 10)) → EW l G yX0_sea cX0_sea 5 (some .int) 4 0 0 (XYQ s h n (seaP sm F tp (nI q) (nI r))) 0 0 (hov h [(1, OB 0 (XOf (upd s 4 (nI (seP (F 40) tp (seS (F 40) tp f0 10)))))), (11, OB 2 [.null, .null, .null, .null, .null, .int 0, .int pp]), (15, BA 10 ff)]) n 28 [some (.ref 1), some (.int (nI q)), some (.int (nI r)), none, none] [.ref 11] := by
        intro pp ff hw hp
        refine ew_astore_n (t := 29) (L' := [some (.ref 1), some (.int (nI q)), some (.int (nI r)), some (.ref 11), none]) dX0_sea_28 rfl (Nat.le_of_ble_eq_true rfl) rfl rfl ?_
        refine ew_aload_n (t := 30) dX0_sea_29 rfl rfl rfl ?_
        refine ew_ic0 (t := 31) dX0_sea_30 rfl ?_
        refine ew_put (t := 34) (j := 3) (fs' := XOf (upd (upd s 3 0) 4 (nI (seP (F 40) tp (seS (F 40) tp f0 10))))) (h' := (hov h [(1, OB 0 (XOf (upd (upd s 3 0) 4 (nI (seP (F 40) tp (seS (F 40) tp f0 10)))))), (11, OB 2 [.null, .null, .null, .null, .null, .int 0, .int pp]), (15, BA 10 ff)])) fcX0 rfl (Nat.le_of_ble_eq_true rfl) rfl q258 rfl rfl (Nat.le_of_ble_eq_true rfl) rfl dX0_sea_31 (hov_up rfl) rfl ?_
        refine ew_bipush (t := 36) (v := (-20)) dX0_sea_34 (by decide) rfl ?_
        refine ew_aload_n (t := 37) dX0_sea_36 rfl rfl rfl ?_
        refine ew_getN (t := 40) (j := 6) (v := .int pp) fcX2 rfl (Nat.le_of_ble_eq_true rfl) q224 rfl dX0_sea_37 rfl ?_
        refine ew_isub (t := 41) dX0_sea_40 rfl ?_
        exact ew_iret rfl dX0_sea_41 (Nat.le_refl _) (Nat.le_refl _) (by rw [hQ, seaE_w hw, hp]; exact ⟨rfl, rfl, ⟨_, rfl, rfl, rfl⟩, x12, ⟨xt.1, xt.2.1, xt.2.2.1, xt.2.2.2.1, xt.2.2.2.2.1, xt.2.2.2.2.2.1, xt.2.2.2.2.2.2⟩, ⟨_, rfl⟩, sea_sc3 sc, fun k hk => (hv_miss (by omega)).trans ((hv_miss (by omega)).trans (hv_miss (by omega)))⟩)
      refine EW.heap (h' := hov h [(1, XO s), (11, FO p0)]) (hov_same2 x1 x11).symm ?_
      refine ew_aload_n (t := 22) dX0_sea_21 rfl rfl rfl ?_
      refine ew_callVT (t := 25) (As := []) (ax_readSea (h := h) (s := s) (p0 := p0) (T := F 40) (tp := tp) (f0 := f0) x12 h3 htp hT x15) (fcX0).1 rfl (lw_V q391 q393 qs8 q51 q394) rfl naX0_readSea dX0_sea_22 rfl (Nat.le_of_ble_eq_true rfl) (Nat.le_of_ble_eq_true rfl) (Nat.le_refl _) (Nat.le_refl _) (Nat.le_of_ble_eq_true rfl) rfl (fun r h1 n1 q hnr => ?_) (fun x h1 n1 q => by
    obtain ⟨q1, p1, f1, rfl, q2⟩ := q
    subst q1
    rcases q2 with ⟨q3, q4, q5⟩ | ⟨q3, q4, q5⟩
    · cases q4
      exact et_catch (sp := 21) (ep := 25) fcX2.1 rfl (by decide +kernel) (by decide) (by decide) (by decide) q160 (HD _ _ q3 q5)
    · cases q4)
      obtain ⟨q1, p1, f1, rfl, q2⟩ := q
      subst q1
      rcases q2 with ⟨-, q4, -⟩ | ⟨hw, rfl, rfl⟩
      · rw [q4] at hnr; exact absurd hnr (by decide)
      refine ew_goto (t := 42) dX0_sea_25 rfl ?_
      refine ew_aload_n (t := 43) dX0_sea_42 rfl rfl rfl ?_
      refine ew_ic0 (t := 44) dX0_sea_43 rfl ?_
      refine ew_put (t := 47) (j := 3) (fs' := XOf (upd (upd s 3 0) 4 (nI (seP (F 40) tp (seS (F 40) tp f0 10))))) (h' := (hov h [(1, OB 0 (XOf (upd (upd s 3 0) 4 (nI (seP (F 40) tp (seS (F 40) tp f0 10)))))), (11, OB 2 [.null, .null, .null, .null, .null, .int 0, .int p1]), (15, BA 10 ((seS (F 40) tp f0 10).2.2.2))])) fcX0 rfl (Nat.le_of_ble_eq_true rfl) rfl q258 rfl rfl (Nat.le_of_ble_eq_true rfl) rfl dX0_sea_44 (hov_up rfl) rfl ?_
      refine ew_ic0 (t := 48) dX0_sea_47 rfl ?_
      refine ew_istore_n (t := 49) (L' := [some (.ref 1), some (.int (nI q)), some (.int (nI r)), some (.int 0), none]) dX0_sea_48 rfl (Nat.le_of_ble_eq_true rfl) rfl rfl ?_
      refine ew_ic0 (t := 50) dX0_sea_49 rfl ?_
      refine ew_istore (t := 52) (L' := [some (.ref 1), some (.int (nI q)), some (.int (nI r)), some (.int 0), some (.int 0)]) dX0_sea_50 (Nat.le_of_ble_eq_true rfl) rfl rfl ?_
      refine EW.heap (h' := hov h [(1, XO (upd (upd s 3 0) 4 (nI (seP (F 40) tp (seS (F 40) tp f0 10))))), (11, FO p1), (15, BA 10 (seS (F 40) tp f0 10).2.2.2), (6, BA 200 (F 37))]) (by exact (hov_mid xt.2.2.2.2.1 (l2 := []) (by intro q hq; cases hq) [(1, XO (upd (upd s 3 0) 4 (nI (seP (F 40) tp (seS (F 40) tp f0 10))))), (11, FO p1), (15, BA 10 (seS (F 40) tp f0 10).2.2.2)]).symm) ?_
      refine lx_sea2 (s := (upd (upd s 3 0) 4 (nI (seP (F 40) tp (seS (F 40) tp f0 10))))) (g0 := F 37) (rd := (seS (F 40) tp f0 10).2.2.2) (q := q) (r := r) xt.1 (seS_sc 10).2 (by omega) (by omega) ?_ 10 0 (by omega)
      rw [hQ, seaE_r hw]
      exact ⟨rfl, rfl, ⟨_, rfl, rfl, rfl⟩, x12, ⟨xt.1, xt.2.1, xt.2.2.1, xt.2.2.2.1, rfl, xt.2.2.2.2.2.1, xt.2.2.2.2.2.2⟩, ⟨_, rfl⟩, sea_sc sc, fun k hk => (hv_miss (by omega)).trans ((hv_miss (by omega)).trans ((hv_miss (by omega)).trans (hv_miss (by omega))))⟩
    · refine ew_icm1 (t := 20) dX0_sea_19 rfl ?_
      exact ew_iret rfl dX0_sea_20 (Nat.le_refl _) (Nat.le_refl _) (by unfold seaP; rw [show inL se.toInt64 0 1 = inI se 0 1 from inL_I se 0 1, show inL ro.toInt64 0 9 = inI ro 0 9 from inL_I ro 0 9, if_neg c_6, if_neg (not_not_intro c_16)]; exact XYQ.same x1 (h3.trans h7.symm) x11 x12 xt sc)
