-- Obj fields dict_keys(['cls', 'fun', 'sname', 'refs', 'extra', 'ups'])
/-! rows that are alike up to their length; the component: readRings, rings -/
set_option maxRecDepth 100000
theorem arr_ext {cA : ClassId} {N : Nat} {f g : Nat → Int32} (h : ∀ j, j < N → f j = g j) : vp_cell cA (N, .inl f) = vp_cell cA (N, .inl g) := by
  show arrV cA N (fun j => .int (f j)) = arrV cA N (fun j => .int (g j))
  unfold arrV
  congr 2
  funext j
  show Value.int (f j.val) = Value.int (g j.val)
  rw [h j.val j.isLt]
theorem HR.arrI {G : GW} {h : AH} {n : Nat} {H : Heap} (hR : HR G h n H) {a K N : Nat} {f g : Nat → Int32} (ha : h a = some (.inl (K, N, .inl f))) (hf : ∀ j, j < N → f j = g j) : HR G (va_up h a (some (.inl (K, N, .inl g)))) n H := by
  refine hR.set _ ha ?_ rfl (fun _ _ => rfl)
  have h1 : H[rho G a]? = some (vp_cell (gA G K) (N, .inl f)) := hR.2.2.2 a _ ha
  show H[rho G a]? = some (vp_cell (gA G K) (N, .inl g))
  rw [← arr_ext hf]; exact h1
theorem EW.arrI {l : Launch} {G : GW} {y : MethodName} {cc : ByteArray} {nL : Nat} {ret : Option FieldType} {fr mc ms : Nat} {Q : Option Value → AH → Nat → Prop} {k sl : Nat} {h h' : AH} {n pc : Nat} {L : List (Option Value)} {st : List Value} {a K N : Nat} {f : Nat → Int32} (g : Nat → Int32) (ha : h a = some (.inl (K, N, .inl f))) (hf : ∀ j, j < N → f j = g j) (hu : va_up h a (some (.inl (K, N, .inl g))) = h') (kk : EW l G y cc nL ret fr mc ms Q k sl h' n pc L st) : EW l G y cc nL ret fr mc ms Q k sl h n pc L st := by
  subst hu
  intro p e s m args below meth c C1 H locs ls hR hS hl
  exact kk p e s m args below meth c C1 H locs ls (hR.arrI ha hf) hS hl
theorem cpy7 {f g : Nat → Int32} {N : Nat} : ∀ j, j < N → va_cpy f g 0 0 N j = f j := by
  intro j hj
  show (if 0 ≤ j ∧ j < 0 + N then f (0 + (j - 0)) else g j) = f j
  rw [if_pos ⟨Nat.zero_le _, by omega⟩]
  congr 1; omega
theorem cpI7 {g f : Nat → Int32} : ∀ k j, j < k → cpI g f 0 k j = f j
  | k + 1, j, hj => by
    rw [cpI]
    by_cases e : j = k
    · subst e; rw [Nat.zero_add, pk_us]
    · rw [pk_un (show ¬ j = 0 + k by omega)]; exact cpI7 k j (by omega)
theorem rgN_pos {T : Nat → Int32} {tp lo a : Nat} (hlo : lo ≤ 6) (hw : (rgN T tp lo a).2.2 = 0) : 1 ≤ rgH T tp lo a := by
  unfold rgH
  unfold rgN dgR at *
  rw [if_neg (not_not_intro rfl)] at *
  by_cases c2 : b2i (inL (hrC T tp (hrN T tp a)).toInt64 ((48 : Int32) + (nI lo + 1)).toInt64 ((48 : Int32) + 6).toInt64) = 0
  · rw [if_neg (not_not_intro c2)] at hw
    exact absurd hw (show ¬ (1 : Int32) = 0 by decide)
  · rw [if_pos c2]
    have h2 := b2i_1.mp c2
    rw [inL_I, nI_1, show (48 : Int32) + nI (lo + 1) = nI (48 + (lo + 1)) from nI_add 48 (lo + 1)] at h2
    obtain ⟨j, h3, h4, h5⟩ := inI_nat (c := hrC T tp (hrN T tp a)) (lo := 48 + (lo + 1)) (hi := 54) (by have := inI_iff.mp h2; have h6 := Int32.le_trans this.1 this.2; exact (nI_leI (b := 54) (by omega) (by omega)).mp h6) (by omega) h2
    show 1 ≤ (hrC T tp (hrN T tp a) - 48).toNatClampNeg
    rw [h5, show j = (j - 48) + 48 by omega, show (48 : Int32) = nI 48 from rfl, nI_sub2, nI_clamp (by omega)]
    omega
theorem rgR_0 {T : Nat → Int32} {tp : Nat} : ∀ u k lo a f g, lo ≤ 6 → (rgR T tp u k lo a f g).2.1 = 0 → (rgR T tp u k lo a f g).2.2.2.1 0 = f 0 ∧ (rgR T tp u k lo a f g).2.2.2.2 0 = g 0 := by
  intro u
  induction u with
  | zero => ?z
  | succ u ih => ?s
  case' z =>
    intro k lo a f g hlo
    rw [rgR.eq_1]
  case' s =>
    intro k lo a f g hlo
    rw [rgR.eq_2]
  all_goals
    unfold rgS
    by_cases c1 : (rgN T tp lo a).2.2 = 0
    · have hp := rgN_pos hlo c1
      rw [if_neg (not_not_intro c1)]
      by_cases c2 : hrC T tp (rgA T tp lo a) = 58
      · rw [if_neg (not_not_intro c2)]
        by_cases c3 : (rgQ T tp lo a).2.2 = 0
        · rw [if_neg (not_not_intro c3)]
          by_cases c4 : 6 ≤ nI (k + 1)
          · rw [if_pos c4]; intro _; dsimp only; exact ⟨pk_un (by omega), pk_un (by omega)⟩
          · rw [if_neg c4]
            by_cases c5 : hrC T tp (hrN T tp (rgE T tp lo a)) = 59
            · rw [if_neg (not_not_intro c5)]
              first
              | (intro _; exact ⟨rfl, rfl⟩)
              | (intro hz
                 have := ih _ _ _ _ _ (rgH_le hlo) hz
                 rw [this.1, this.2]
                 exact ⟨pk_un (by omega), pk_un (by omega)⟩)
            · rw [if_pos c5]; intro _; dsimp only; exact ⟨pk_un (by omega), pk_un (by omega)⟩
        · rw [if_pos c3]; intro hz; dsimp only at hz; exact absurd hz c3
      · rw [if_pos c2]; intro hz; dsimp only at hz; exact absurd hz (by decide)
    · rw [if_pos c1]; intro hz; dsimp only at hz; exact absurd hz (by decide)
theorem rng_back {F : Nat → Nat → Int32} {tp : Nat} {Z : RGS} (hZ : rngsZ F tp = Z) (hz : Z.2.1 = 0) : (∀ j, j < 7 → Z.2.2.2.1 j = wbI (F 35) Z.2.2.2.1 6 j) ∧ ∀ j, j < 7 → Z.2.2.2.2 j = wbI (F 36) Z.2.2.2.2 6 j := by
  have hZ2 : rgR (F 40) tp 5 0 0 0 (cpI (F 41) (F 35) 0 7) (cpI (F 42) (F 36) 0 7) = Z := hZ
  have hh := rgR_0 (T := F 40) (tp := tp) 5 0 0 0 (cpI (F 41) (F 35) 0 7) (cpI (F 42) (F 36) 0 7) (by omega)
  rw [hZ2] at hh
  obtain ⟨h1, h2⟩ := hh hz
  rw [cpI7 7 0 (by omega)] at h1 h2
  constructor
  · intro j hj
    rw [wbI_get]
    by_cases c : 1 ≤ j ∧ j ≤ 6
    · rw [if_pos c]
    · rw [if_neg c, show j = 0 by omega]; exact h1
  · intro j hj
    rw [wbI_get]
    by_cases c : 1 ≤ j ∧ j ≤ 6
    · rw [if_pos c]
    · rw [if_neg c, show j = 0 by omega]; exact h2
set_option maxHeartbeats 600000 in
theorem ax_readRings {l : Launch} {G : GW} {h : AH} {n : Nat} {s : Nat → Int32} {T : Nat → Int32} {tp : Nat} {p0 : Int32} (x12 : h 12 = some (BA 60 T)) (h3 : s 3 = nI tp) (htp : tp ≤ 60) (hT : okT T tp) {ff gg : Nat → Int32} (x13 : h 13 = some (IA 7 (frX ff))) (x14 : h 14 = some (IA 7 gg)) {Z : RGS} (hZ : rgR T tp 5 0 0 0 ff gg = Z) : AT l G yX0_readRings cX0_readRings 4 (some .int) 3 0 0 [.ref 1] (hov h [(1, OB 0 (XOf s)), (11, OB 2 [.null, .null, .null, .null, .null, .int 0, .int p0])]) n (RgQ s T tp h n Z) := by
  refine AT.of (L := [some (.ref 1), none, none, none]) (by decide) (Nat.le_of_ble_eq_true rfl) rfl ?_
  refine ew_ic0 (t := 1) dX0_readRings_0 rfl ?_
  refine ew_istore_n (t := 2) (L' := [some (.ref 1), some (.int 0), none, none]) dX0_readRings_1 rfl (Nat.le_of_ble_eq_true rfl) rfl rfl ?_
  refine ew_ic0 (t := 3) dX0_readRings_2 rfl ?_
  refine ew_istore_n (t := 4) (L' := [some (.ref 1), some (.int 0), some (.int 0), none]) dX0_readRings_3 rfl (Nat.le_of_ble_eq_true rfl) rfl rfl ?_
  refine ew_aload_n (t := 5) dX0_readRings_4 rfl rfl rfl ?_
  refine ew_ic0 (t := 6) dX0_readRings_5 rfl ?_
  refine ew_put (t := 9) (j := 4) (fs' := XOf (upd s 4 0)) (h' := (hov h [(1, OB 0 (XOf (upd s 4 0))), (11, OB 2 [.null, .null, .null, .null, .null, .int 0, .int p0])])) fcX0 rfl (Nat.le_of_ble_eq_true rfl) rfl q259 rfl rfl (Nat.le_of_ble_eq_true rfl) rfl dX0_readRings_6 (hov_up rfl) rfl ?_
  refine ew_ic1 (t := 10) dX0_readRings_9 rfl ?_
  refine ew_istore_n (t := 11) (L' := [some (.ref 1), some (.int 0), some (.int 0), some (.int 1)]) dX0_readRings_10 rfl (Nat.le_of_ble_eq_true rfl) rfl rfl ?_
  refine EW.heap (h' := hov h [(1, XO (upd s 4 (nI 0))), (11, FO p0), (13, IA 7 (frX ff)), (14, IA 7 gg)]) (by exact ((hov_mid x13 (l2 := [(14, IA 7 gg)]) (by intro q hq; cases hq with | head => exact (show (13 : Nat) ≠ 14 by decide) | tail _ h => cases h) [(1, XO (upd s 4 0)), (11, FO p0)]).trans (hov_mid x14 (l2 := []) (by intro q hq; cases hq) [(1, XO (upd s 4 0)), (11, FO p0)])).symm) ?_
  refine lx_rings (s := s) (p0 := p0) (Z := Z) x12 h3 htp hT (fun o2 h0 => ?_) 5 0 0 0 ff gg (by omega) (by omega) (by omega) hZ
  have le := rgR_le (T := T) htp 5 0 0 0 ff gg (by omega) (by omega)
  rw [hZ] at le
  refine ew_aload_n (t := 110) dX0_readRings_109 rfl rfl rfl ?_
  refine ew_callV (t := 113) (As := []) (ax_next (h := hov h [(11, FO p0), (13, IA 7 (frX Z.2.2.2.1)), (14, IA 7 Z.2.2.2.2)]) (s := (upd s 4 (nI Z.1))) (a := Z.1) x12 h3 rfl le htp) (fcX0).1 rfl (lw_V q368 q370 qs4 q51 q371) rfl naX0_nextByte dX0_readRings_110 rfl (Nat.le_of_ble_eq_true rfl) (Nat.le_of_ble_eq_true rfl) (Nat.le_refl _) (Nat.le_refl _) (Nat.le_of_ble_eq_true rfl) rfl (qi ?_)
  refine EW.heap (h' := (hov h [(1, OB 0 (XOf (upd s 4 (nI (hrN T tp Z.1))))), (11, OB 2 [.null, .null, .null, .null, .null, .int 0, .int p0]), (13, IA 7 (frX Z.2.2.2.1)), (14, IA 7 Z.2.2.2.2)])) (by rw [upd_upd]; rfl) ?_
  refine ew_if_lt (t := 121) (t2 := 116) dX0_readRings_113 rfl rfl (fun c_113 => ?_) (fun c_113 => ?_)
  · refine ew_iload_n (t := 122) dX0_readRings_121 rfl rfl rfl ?_
    exact ew_iret rfl dX0_readRings_122 (Nat.le_refl _) (Nat.le_refl _) ⟨rfl, p0, _, _, by rw [rngPl, if_pos h0], Or.inr ⟨by unfold rngW; rw [decide_eq_true h0, decide_eq_true (nb_neg' hT htp (hrN_le le).2 c_113)]; rfl, rfl, rfl, rfl⟩⟩
  · refine ew_aload_n (t := 117) dX0_readRings_116 rfl rfl rfl ?_
    refine ew_callV (t := 120) (As := []) (ax_wrong (h := hov h [(13, IA 7 (frX Z.2.2.2.1)), (14, IA 7 Z.2.2.2.2)]) (s := (upd s 4 (nI (hrN T tp Z.1)))) (p0 := p0)) (fcX0).1 rfl (lw_V q372 q374 qs5 q51 q375) rfl naX0_wrong dX0_readRings_117 rfl (Nat.le_of_ble_eq_true rfl) (Nat.le_of_ble_eq_true rfl) (Nat.le_refl _) (Nat.le_refl _) (Nat.le_of_ble_eq_true rfl) rfl (qr ?_)
    refine ew_athrow dX0_readRings_120 ?_
    refine et_leave (by decide +kernel) (by decide +kernel) (Nat.le_refl _) (Nat.le_refl _) ?_
    refine ⟨rfl, nI (hrN T tp Z.1), _, _, (by rw [rngPl, if_pos h0]; rfl), Or.inl ⟨?_, rfl, by rw [rngPl, if_pos h0]⟩⟩
    unfold rngW; rw [decide_eq_false (p := hrC T tp (hrN T tp Z.1) = 0) (fun q => c_113 (by rw [nb_neg hT htp (hrN_le le).2 q]; decide)), Bool.and_false]; rfl
theorem rngE_w {s : Nat → Int32} {F : Nat → Nat → Int32} {tp : Nat} {Z : RGS} (hZ : rngsZ F tp = Z) (h : rngW (F 40) tp Z = true) : rngsP s F tp = (-20 - nI (rngPl (F 40) tp Z), upd s 7 0, F) := by
  unfold rngsP rngsE
  rw [hZ]
  unfold rngPl
  by_cases c : Z.2.1 = 0
  · rw [if_neg (not_not_intro c), if_pos c, if_neg (fun q => by
      unfold rngW at h
      rw [decide_eq_true c, decide_eq_true q] at h
      exact absurd h (by decide))]
  · rw [if_pos c, if_neg c]
theorem rngE_r {s : Nat → Int32} {F : Nat → Nat → Int32} {tp : Nat} {Z : RGS} (hZ : rngsZ F tp = Z) (h : rngW (F 40) tp Z = false) : Z.2.1 = 0 ∧ rngsP s F tp = (nI Z.2.2.1, upd s 7 0, va_up (va_up F 35 (wbI (F 35) Z.2.2.2.1 6)) 36 (wbI (F 36) Z.2.2.2.2 6)) := by
  unfold rngsP rngsE
  rw [hZ]
  unfold rngW at h
  have h1 : Z.2.1 = 0 := by
    refine Decidable.byContradiction (fun q => ?_)
    rw [decide_eq_false q, Bool.false_and] at h
    exact absurd h (by decide)
  have h2 : hrC (F 40) tp (hrN (F 40) tp Z.1) = 0 := by
    refine Decidable.byContradiction (fun q => ?_)
    rw [decide_eq_false q, Bool.and_false] at h
    exact absurd h (by decide)
  rw [if_neg (not_not_intro h1), if_pos h2]
  exact ⟨h1, rfl⟩
theorem frX_cp {g f : Nat → Int32} : ∀ j, j < 7 → frX f j = frX (cpI g f 0 7) j := by
  intro j hj
  unfold frX
  rw [cpI7 7 j hj]
theorem rng_sc {h : AH} {c1 c11 c4 c5 : AC} {f g : Nat → Int32} (sc : scX h) : scX (hov h [(1, c1), (11, c11), (13, IA 7 f), (14, IA 7 g), (4, c4), (5, c5)]) := ⟨⟨f, rfl⟩, ⟨g, rfl⟩, sc.2.2⟩
theorem rng_sc2 {h : AH} {c1 c11 : AC} {f g f0 g0 : Nat → Int32} (sc : scX h) : scX (hov (hov h [(13, IA 7 f0), (14, IA 7 g0)]) [(1, c1), (11, c11), (13, IA 7 f), (14, IA 7 g)]) := ⟨⟨f, rfl⟩, ⟨g, rfl⟩, sc.2.2⟩
theorem hov_13 {h : AH} {c1 c11 : AC} {f g f0 g0 : Nat → Int32} : hov (hov h [(13, IA 7 f0), (14, IA 7 g0)]) [(1, c1), (11, c11), (13, IA 7 f), (14, IA 7 g)] = hov h [(1, c1), (11, c11), (13, IA 7 f), (14, IA 7 g)] := by
  funext k
  by_cases e1 : k = 1
  · subst e1; rfl
  by_cases e2 : k = 11
  · subst e2; rfl
  by_cases e3 : k = 13
  · subst e3; rfl
  by_cases e4 : k = 14
  · subst e4; rfl
  rw [hv_miss e1, hv_miss e2, hv_miss e3, hv_miss e4, hv_miss e1, hv_miss e2, hv_miss e3, hv_miss e4]
  show hov h [(13, IA 7 f0), (14, IA 7 g0)] k = h k
  rw [hv_miss e3, hv_miss e4]; rfl
set_option maxHeartbeats 600000 in
theorem xc_rings {l : Launch} {G : GW} {h : AH} {n : Nat} {s sm : Nat → Int32} {F : Nat → Nat → Int32} {tp : Nat} {p0 : Int32} (x1 : h 1 = some (XO s)) (x11 : h 11 = some (FO p0)) (x12 : h 12 = some (BA 60 (F 40))) (xt : XT F h) (sc : scX h) (h3 : s 3 = nI tp) (h7 : sm 7 = nI tp) (htp : tp ≤ 60) (hT : okT (F 40) tp) : AMW l G yX0_rings cX0_rings 3 (some .int) 4 0 0 [.ref 1] h n (XYQ s h n (rngsP sm F tp)) := by
  refine AMW.of (L := [some (.ref 1), none, none]) (by decide) (Nat.le_of_ble_eq_true rfl) rfl ?_
  obtain ⟨Z, hZ⟩ : ∃ Z, rngsZ F tp = Z := ⟨_, rfl⟩
  obtain ⟨f1, x13⟩ := sc.1
  obtain ⟨g1, x14⟩ := sc.2.1
  refine ew_aload_n (t := 1) dX0_rings_0 rfl rfl rfl ?_
  refine ew_get (t := 4) (j := 0) (v := .ref 2) fcX0 x1 (Nat.le_of_ble_eq_true rfl) q255 rfl dX0_rings_1 rfl ?_
  refine ew_getN (t := 7) (j := 1) (v := .ref 4) fcX1 xt.1 (Nat.le_of_ble_eq_true rfl) q129 rfl dX0_rings_4 rfl ?_
  refine ew_ic0 (t := 8) dX0_rings_7 rfl ?_
  refine ew_aload_n (t := 9) dX0_rings_8 rfl rfl rfl ?_
  refine ew_get (t := 12) (j := 5) (v := .ref 13) fcX0 x1 (Nat.le_of_ble_eq_true rfl) q260 rfl dX0_rings_9 rfl ?_
  refine ew_ic0 (t := 13) dX0_rings_12 rfl ?_
  refine ew_bipush (t := 15) (v := 7) dX0_rings_13 (by decide) rfl ?_
  refine ew_copyI (t := 18) (K := 0) (ty := .int) (sp := 0) (dp := 0) (N := 7) (h' := (hov h [(13, IA 7 (va_cpy (frX (F 35)) f1 0 0 7))])) q357 q359 q358 q61 xt.2.2.1 x13 rfl rfl (by decide) (by decide) (by decide) (by decide) (by decide) (by decide) (by decide) (by decide) (fun _ _ => rfl) dX0_rings_15 (Nat.le_of_ble_eq_true rfl) (Nat.le_of_ble_eq_true rfl) (hov_up0) rfl ?_
  refine ew_aload_n (t := 19) dX0_rings_18 rfl rfl rfl ?_
  refine ew_get (t := 22) (j := 0) (v := .ref 2) fcX0 x1 (Nat.le_of_ble_eq_true rfl) q255 rfl dX0_rings_19 rfl ?_
  refine ew_getN (t := 25) (j := 2) (v := .ref 5) fcX1 xt.1 (Nat.le_of_ble_eq_true rfl) q131 rfl dX0_rings_22 rfl ?_
  refine ew_ic0 (t := 26) dX0_rings_25 rfl ?_
  refine ew_aload_n (t := 27) dX0_rings_26 rfl rfl rfl ?_
  refine ew_get (t := 30) (j := 6) (v := .ref 14) fcX0 x1 (Nat.le_of_ble_eq_true rfl) q261 rfl dX0_rings_27 rfl ?_
  refine ew_ic0 (t := 31) dX0_rings_30 rfl ?_
  refine ew_bipush (t := 33) (v := 7) dX0_rings_31 (by decide) rfl ?_
  refine ew_copyI (t := 36) (K := 0) (ty := .int) (sp := 0) (dp := 0) (N := 7) (h' := (hov h [(13, IA 7 (va_cpy (frX (F 35)) f1 0 0 7)), (14, IA 7 (va_cpy (F 36) g1 0 0 7))])) q357 q359 q358 q61 xt.2.2.2.1 x14 rfl rfl (by decide) (by decide) (by decide) (by decide) (by decide) (by decide) (by decide) (by decide) (fun _ _ => rfl) dX0_rings_33 (Nat.le_of_ble_eq_true rfl) (Nat.le_of_ble_eq_true rfl) (hov_up rfl) rfl ?_
  refine EW.arrI (h' := (hov h [(13, IA 7 (frX (cpI (F 41) (F 35) 0 7))), (14, IA 7 (va_cpy (F 36) g1 0 0 7))])) (a := 13) (frX (cpI (F 41) (F 35) 0 7)) rfl (fun j hj => (cpy7 j hj).trans (frX_cp j hj)) (hov_up rfl) ?_
  refine EW.arrI (h' := (hov h [(13, IA 7 (frX (cpI (F 41) (F 35) 0 7))), (14, IA 7 (cpI (F 42) (F 36) 0 7))])) (a := 14) (cpI (F 42) (F 36) 0 7) rfl (fun j hj => (cpy7 j hj).trans (cpI7 7 j hj).symm) (hov_up rfl) ?_
  have HD : ∀ (pp : Int32) (f2 g2 : Nat → Int32), rngW (F 40) tp Z = true → pp = nI (rngPl (F 40) tp Z) → EW l G yX0_rings cX0_rings 3 (some .int) 4 0 0 (XYQ s h n (rngsP sm F tp)) 0 0 (hov h [(1, OB 0 (XOf (upd s 4 (nI (rngPl (F 40) tp Z))))), (11, OB 2 [.null, .null, .null, .null, .null, .int 0, .int pp]), (13, IA 7 f2), (14, IA 7 g2)]) n 44 [some (.ref 1), none, none] [.ref 11] := by
    intro pp f2 g2 hw hp
    refine ew_astore_n (t := 45) (L' := [some (.ref 1), none, some (.ref 11)]) dX0_rings_44 rfl (Nat.le_of_ble_eq_true rfl) rfl rfl ?_
    refine ew_aload_n (t := 46) dX0_rings_45 rfl rfl rfl ?_
    refine ew_ic0 (t := 47) dX0_rings_46 rfl ?_
    refine ew_put (t := 50) (j := 3) (fs' := XOf (upd (upd s 3 0) 4 (nI (rngPl (F 40) tp Z)))) (h' := (hov h [(1, OB 0 (XOf (upd (upd s 3 0) 4 (nI (rngPl (F 40) tp Z))))), (11, OB 2 [.null, .null, .null, .null, .null, .int 0, .int pp]), (13, IA 7 f2), (14, IA 7 g2)])) fcX0 rfl (Nat.le_of_ble_eq_true rfl) rfl q258 rfl rfl (Nat.le_of_ble_eq_true rfl) rfl dX0_rings_47 (hov_up rfl) rfl ?_
    refine ew_bipush (t := 52) (v := (-20)) dX0_rings_50 (by decide) rfl ?_
    refine ew_aload_n (t := 53) dX0_rings_52 rfl rfl rfl ?_
    refine ew_getN (t := 56) (j := 6) (v := .int pp) fcX2 rfl (Nat.le_of_ble_eq_true rfl) q224 rfl dX0_rings_53 rfl ?_
    refine ew_isub (t := 57) dX0_rings_56 rfl ?_
    exact ew_iret rfl dX0_rings_57 (Nat.le_refl _) (Nat.le_refl _) (by rw [rngE_w hZ hw, hp]; exact ⟨rfl, rfl, ⟨_, rfl, rfl, rfl⟩, x12, ⟨xt.1, xt.2.1, xt.2.2.1, xt.2.2.2.1, xt.2.2.2.2.1, xt.2.2.2.2.2.1, xt.2.2.2.2.2.2⟩, ⟨_, rfl⟩, ⟨⟨_, rfl⟩, ⟨_, rfl⟩, sc.2.2⟩, fun k hk => (hv_miss (by omega)).trans ((hv_miss (by omega)).trans ((hv_miss (by omega)).trans (hv_miss (by omega))))⟩)
  refine EW.heap (h' := hov (hov h [(13, IA 7 (frX (cpI (F 41) (F 35) 0 7))), (14, IA 7 (cpI (F 42) (F 36) 0 7))]) [(1, XO s), (11, FO p0)]) (hov_same2 (h := hov h [(13, IA 7 (frX (cpI (F 41) (F 35) 0 7))), (14, IA 7 (cpI (F 42) (F 36) 0 7))]) (a := 1) (b := 11) x1 x11).symm ?_
  refine ew_aload_n (t := 37) dX0_rings_36 rfl rfl rfl ?_
  refine ew_callVT (t := 40) (As := []) (ax_readRings (h := hov h [(13, IA 7 (frX (cpI (F 41) (F 35) 0 7))), (14, IA 7 (cpI (F 42) (F 36) 0 7))]) (s := s) (p0 := p0) (T := F 40) (tp := tp) (ff := (cpI (F 41) (F 35) 0 7)) (gg := (cpI (F 42) (F 36) 0 7)) x12 h3 htp hT rfl rfl (show rgR (F 40) tp 5 0 0 0 (cpI (F 41) (F 35) 0 7) (cpI (F 42) (F 36) 0 7) = Z from hZ)) (fcX0).1 rfl (lw_V q360 q362 qs2 q51 q363) rfl naX0_readRings dX0_rings_37 rfl (Nat.le_of_ble_eq_true rfl) (Nat.le_of_ble_eq_true rfl) (Nat.le_refl _) (Nat.le_refl _) (Nat.le_of_ble_eq_true rfl) rfl (fun r h1 n1 q hnr => ?_) (fun x h1 n1 q => by
    obtain ⟨q1, p1, f2, g2, rfl, q2⟩ := q
    replace q1 := q1.symm
    subst q1
    rcases q2 with ⟨q3, q4, q5⟩ | ⟨q3, q4, q5⟩
    · cases q4
      rw [hov_13]
      exact et_catch (sp := 36) (ep := 41) fcX2.1 rfl (by decide +kernel) (by decide) (by decide) (by decide) q160 (HD _ _ _ q3 q5)
    · cases q4)
  obtain ⟨q1, p1, f2, g2, rfl, q2⟩ := q
  replace q1 := q1.symm
  subst q1
  rcases q2 with ⟨-, q4, -⟩ | ⟨hw, rfl, rfl, rfl⟩
  · rw [q4] at hnr; exact absurd hnr (by decide)
  rw [hov_13]
  obtain ⟨hz0, hQ⟩ := rngE_r (s := sm) hZ hw
  rw [hQ]
  refine ew_istore_n (t := 41) (L' := [some (.ref 1), some (.int (nI Z.2.2.1)), none]) dX0_rings_40 rfl (Nat.le_of_ble_eq_true rfl) rfl rfl ?_
  refine ew_goto (t := 58) dX0_rings_41 rfl ?_
  refine ew_aload_n (t := 59) dX0_rings_58 rfl rfl rfl ?_
  refine ew_ic0 (t := 60) dX0_rings_59 rfl ?_
  refine ew_put (t := 63) (j := 3) (fs' := XOf (upd (upd s 3 0) 4 (nI (rngPl (F 40) tp Z)))) (h' := (hov h [(1, OB 0 (XOf (upd (upd s 3 0) 4 (nI (rngPl (F 40) tp Z))))), (11, OB 2 [.null, .null, .null, .null, .null, .int 0, .int p1]), (13, IA 7 (frX Z.2.2.2.1)), (14, IA 7 Z.2.2.2.2)])) fcX0 rfl (Nat.le_of_ble_eq_true rfl) rfl q258 rfl rfl (Nat.le_of_ble_eq_true rfl) rfl dX0_rings_60 (hov_up rfl) rfl ?_
  refine ew_aload_n (t := 64) dX0_rings_63 rfl rfl rfl ?_
  refine ew_get (t := 67) (j := 5) (v := .ref 13) fcX0 rfl (Nat.le_of_ble_eq_true rfl) q260 rfl dX0_rings_64 rfl ?_
  refine ew_ic0 (t := 68) dX0_rings_67 rfl ?_
  refine ew_aload_n (t := 69) dX0_rings_68 rfl rfl rfl ?_
  refine ew_get (t := 72) (j := 0) (v := .ref 2) fcX0 rfl (Nat.le_of_ble_eq_true rfl) q255 rfl dX0_rings_69 rfl ?_
  refine ew_getN (t := 75) (j := 1) (v := .ref 4) fcX1 xt.1 (Nat.le_of_ble_eq_true rfl) q129 rfl dX0_rings_72 rfl ?_
  refine ew_ic0 (t := 76) dX0_rings_75 rfl ?_
  refine ew_bipush (t := 78) (v := 7) dX0_rings_76 (by decide) rfl ?_
  refine ew_copyI (t := 81) (K := 0) (ty := .int) (sp := 0) (dp := 0) (N := 7) (h' := (hov h [(1, OB 0 (XOf (upd (upd s 3 0) 4 (nI (rngPl (F 40) tp Z))))), (11, OB 2 [.null, .null, .null, .null, .null, .int 0, .int p1]), (13, IA 7 (frX Z.2.2.2.1)), (14, IA 7 Z.2.2.2.2), (4, IA 7 (va_cpy (frX Z.2.2.2.1) (frX (F 35)) 0 0 7))])) q357 q359 q358 q61 rfl xt.2.2.1 rfl rfl (by decide) (by decide) (by decide) (by decide) (by decide) (by decide) (by decide) (by decide) (fun _ _ => rfl) dX0_rings_78 (Nat.le_of_ble_eq_true rfl) (Nat.le_of_ble_eq_true rfl) (hov_up rfl) rfl ?_
  refine ew_aload_n (t := 82) dX0_rings_81 rfl rfl rfl ?_
  refine ew_get (t := 85) (j := 6) (v := .ref 14) fcX0 rfl (Nat.le_of_ble_eq_true rfl) q261 rfl dX0_rings_82 rfl ?_
  refine ew_ic0 (t := 86) dX0_rings_85 rfl ?_
  refine ew_aload_n (t := 87) dX0_rings_86 rfl rfl rfl ?_
  refine ew_get (t := 90) (j := 0) (v := .ref 2) fcX0 rfl (Nat.le_of_ble_eq_true rfl) q255 rfl dX0_rings_87 rfl ?_
  refine ew_getN (t := 93) (j := 2) (v := .ref 5) fcX1 xt.1 (Nat.le_of_ble_eq_true rfl) q131 rfl dX0_rings_90 rfl ?_
  refine ew_ic0 (t := 94) dX0_rings_93 rfl ?_
  refine ew_bipush (t := 96) (v := 7) dX0_rings_94 (by decide) rfl ?_
  refine ew_copyI (t := 99) (K := 0) (ty := .int) (sp := 0) (dp := 0) (N := 7) (h' := (hov h [(1, OB 0 (XOf (upd (upd s 3 0) 4 (nI (rngPl (F 40) tp Z))))), (11, OB 2 [.null, .null, .null, .null, .null, .int 0, .int p1]), (13, IA 7 (frX Z.2.2.2.1)), (14, IA 7 Z.2.2.2.2), (4, IA 7 (va_cpy (frX Z.2.2.2.1) (frX (F 35)) 0 0 7)), (5, IA 7 (va_cpy Z.2.2.2.2 (F 36) 0 0 7))])) q357 q359 q358 q61 rfl xt.2.2.2.1 rfl rfl (by decide) (by decide) (by decide) (by decide) (by decide) (by decide) (by decide) (by decide) (fun _ _ => rfl) dX0_rings_96 (Nat.le_of_ble_eq_true rfl) (Nat.le_of_ble_eq_true rfl) (hov_up rfl) rfl ?_
  refine EW.arrI (h' := (hov h [(1, OB 0 (XOf (upd (upd s 3 0) 4 (nI (rngPl (F 40) tp Z))))), (11, OB 2 [.null, .null, .null, .null, .null, .int 0, .int p1]), (13, IA 7 (frX Z.2.2.2.1)), (14, IA 7 Z.2.2.2.2), (4, IA 7 (frX (wbI (F 35) Z.2.2.2.1 6))), (5, IA 7 (va_cpy Z.2.2.2.2 (F 36) 0 0 7))])) (a := 4) (frX (wbI (F 35) Z.2.2.2.1 6)) rfl (fun j hj => (cpy7 j hj).trans (by unfold frX; rw [(rng_back hZ hz0).1 j hj])) (hov_up rfl) ?_
  refine EW.arrI (h' := (hov h [(1, OB 0 (XOf (upd (upd s 3 0) 4 (nI (rngPl (F 40) tp Z))))), (11, OB 2 [.null, .null, .null, .null, .null, .int 0, .int p1]), (13, IA 7 (frX Z.2.2.2.1)), (14, IA 7 Z.2.2.2.2), (4, IA 7 (frX (wbI (F 35) Z.2.2.2.1 6))), (5, IA 7 (wbI (F 36) Z.2.2.2.2 6))])) (a := 5) (wbI (F 36) Z.2.2.2.2 6) rfl (fun j hj => (cpy7 j hj).trans ((rng_back hZ hz0).2 j hj)) (hov_up rfl) ?_
  refine ew_iload_n (t := 100) dX0_rings_99 rfl rfl rfl ?_
  exact ew_iret rfl dX0_rings_100 (Nat.le_refl _) (Nat.le_refl _) ⟨rfl, rfl, ⟨_, rfl, rfl, rfl⟩, x12, ⟨xt.1, xt.2.1, rfl, rfl, xt.2.2.2.2.1, xt.2.2.2.2.2.1, xt.2.2.2.2.2.2⟩, ⟨_, rfl⟩, rng_sc sc, fun k hk => (hv_miss (by omega)).trans ((hv_miss (by omega)).trans ((hv_miss (by omega)).trans ((hv_miss (by omega)).trans ((hv_miss (by omega)).trans (hv_miss (by omega))))))⟩
