-- Obj fields dict_keys(['cls', 'fun', 'sname', 'refs', 'extra', 'ups'])
/-! the component: may -/
set_option maxRecDepth 100000
theorem EnM_mem {F34 F35 F36 : Nat → Int32} {nr nt nf : Int32} {a H : Nat} : ∀ (ws : List WY) (v : Nat) (R : MR), EnM F34 F35 F36 nr nt nf a H ws v R → ∀ w ∈ ws, ∃ R', lfM H R' w
  | [], v, R, _, w, hw => by cases hw
  | w :: ws, v, R, h, w', hw' => by
    obtain ⟨f, R', h1, h2, h3⟩ := h
    rcases List.mem_cons.mp hw' with e | e
    · exact ⟨R', e ▸ h2⟩
    · exact EnM_mem ws H R' h3 w' e
/-- the numbers of a way are right -/
def okW (H : Nat) (w : WY) : Prop := (∀ j, j ≤ H → w.1 j < 100) ∧ w.2.1 < 8 ∧ w.2.2.1 < 3 ∧ w.2.2.2.1 < 2 ∧ w.2.2.2.2 ≤ 64
theorem WKc.en {F : Nat → Nat → Int32} {a b H T S U g wd : Nat} (wk : WKc F a b H T S U g wd) (nr nt nf : Int32) (R : MR) : EnM (F 34) (F 35) (F 36) nr nt nf a H (allW F nr nt nf a b H T S U) 0 (begR (F 34 1) R) := by
  obtain ⟨w1, w2, w3, w4, w5, w6, w7, w8, w9, w10, w11, w12, w13, w14, w15, w16, w17, w18⟩ := wk
  exact EnM_all w4 w3 w6 w7 w8 w9 w10 w11 w12 (by omega) R
theorem WKc.okW {F : Nat → Nat → Int32} {a b H T S U g wd : Nat} (wk : WKc F a b H T S U g wd) {nr nt nf : Int32} : ∀ w ∈ allW F nr nt nf a b H T S U, okW H w := by
  intro w hw
  obtain ⟨R', hl⟩ := EnM_mem _ 0 _ (wk.en nr nt nf (fun _ _ => 0)) w hw
  exact ⟨fun j hj => (hl.1 j hj).2, hl.2.2.1, hl.2.2.2.2.1, hl.2.2.2.2.2.2.1, hl.2.2.2.2.2.2.2.2⟩
def markF (hr : Nat) : List WY → (Nat → Int32) → Nat → Int32
  | [], f => f
  | w :: ws, f => markF hr ws (upd f (w.1 hr) 1)
theorem fold_M {hr : Nat} : ∀ (ws : List WY) (f : Nat → Int32), foldW (mkT hr) f ws = (markF hr ws f, true)
  | [], f => rfl
  | w :: ws, f => fold_M ws (upd f (w.1 hr) 1)
def mkB (f : Nat → Int32) (row : Nat) : Nat → Int32
  | 0 => 0
  | k + 1 => mkB f row k ||| (if f (10 * row + k) = 0 then 0 else (1 : Int32) <<< (nI k &&& 31))
theorem mkB_up {f : Nat → Int32} {row c : Nat} : ∀ k, k ≤ 10 → mkB (upd f c 1) row k = if c / 10 = row ∧ c % 10 < k then mkB f row k ||| (1 : Int32) <<< (nI (c % 10) &&& 31) else mkB f row k
  | 0, _ => by rw [if_neg (by omega)]; rfl
  | k + 1, hk => by
    show mkB (upd f c 1) row k ||| (if upd f c 1 (10 * row + k) = 0 then 0 else (1 : Int32) <<< (nI k &&& 31)) = _
    rw [mkB_up k (by omega)]
    by_cases e : 10 * row + k = c
    · have h1 : c / 10 = row := by omega
      have h2 : c % 10 = k := by omega
      rw [e, pk_us, if_neg (show ¬ (1 : Int32) = 0 by decide), if_neg (show ¬ (c / 10 = row ∧ c % 10 < k) by omega), if_pos (show c / 10 = row ∧ c % 10 < k + 1 by omega), h2]
      show mkB f row k ||| _ = (mkB f row k ||| (if f (10 * row + k) = 0 then 0 else (1 : Int32) <<< (nI k &&& 31))) ||| _
      split
      · rw [Int32.or_zero]
      · rw [Int32.or_assoc, Int32.or_self]
    · rw [pk_un e]
      by_cases h : c / 10 = row ∧ c % 10 < k
      · rw [if_pos h, if_pos (show c / 10 = row ∧ c % 10 < k + 1 by omega)]
        show (mkB f row k ||| _) ||| _ = (mkB f row k ||| _) ||| _
        rw [Int32.or_assoc, Int32.or_comm ((1 : Int32) <<< (nI (c % 10) &&& 31)), ← Int32.or_assoc]
      · rw [if_neg h, if_neg (show ¬ (c / 10 = row ∧ c % 10 < k + 1) by omega)]
        rfl
theorem mkB_0 {row : Nat} : ∀ k, mkB (fun _ => 0) row k = 0
  | 0 => rfl
  | k + 1 => by
    show mkB (fun _ => 0) row k ||| (if (0 : Int32) = 0 then 0 else (1 : Int32) <<< (nI k &&& 31)) = 0
    rw [mkB_0 k, if_pos rfl]; rfl
theorem mkB_bits {hr H row : Nat} (hhr : hr ≤ H) (hrow : row ≤ 9) : ∀ (ws : List WY) (f : Nat → Int32), (∀ w ∈ ws, okW H w) → mkB (markF hr ws f) row 10 = mbits hr (nI row) ws (mkB f row 10)
  | [], f, _ => rfl
  | w :: ws, f, hw => by
    have hc := (hw w List.mem_cons_self).1 hr hhr
    show mkB (markF hr ws (upd f (w.1 hr) 1)) row 10 = mbits hr (nI row) ws (mkB f row 10 ||| _)
    rw [mkB_bits hhr hrow ws _ (fun w' h' => hw w' (List.mem_cons_of_mem _ h')), mkB_up 10 (Nat.le_refl _), nI_r10 (a := w.1 hr) (by omega), nI_d10 (a := w.1 hr) (by omega)]
    congr 1
    by_cases c : w.1 hr / 10 = row
    · rw [if_pos ⟨c, by omega⟩, if_neg (not_not_intro (by rw [c]))]
    · rw [if_neg (fun q => c q.1), if_pos (fun q => c (nI_inj (by omega) (by omega) q)), Int32.or_zero]
set_option maxHeartbeats 600000 in
theorem lx_may {l : Launch} {G : GW} {h : AH} {n n2 : Nat} {s' ce' mf : Nat → Int32} {hr row : Nat} {Q : Option Value → AH → Nat → Prop} (hn : 63 ≤ n) (hrow : row ≤ 9) (hq : Q (some (.int (mkB mf row 10))) (XH (hov h [(n, OB 7 [.int (nI hr), .ref (n + 1)]), (n + 1, ZA 100 mf)]) s' ce') n2) : ∀ (f1 k : Nat), k + f1 = 10 → EW l G yX0_may cX0_may 6 (some .int) 33 2 102 Q 2 102 (XH (hov h [(n, OB 7 [.int (nI hr), .ref (n + 1)]), (n + 1, ZA 100 mf)]) s' ce') n2 53 [some (.ref 1), some (.int (nI hr)), some (.int (nI row)), some (.ref n), some (.int (mkB mf row k)), some (.int (nI k))] [] := by
  intro f1
  induction f1 with
  | zero =>
    intro k hk
    refine ew_iload (t := 55) dX0_may_53 rfl rfl ?_
    refine ew_bipush (t := 57) (v := 10) dX0_may_55 (by decide) rfl ?_
    refine ew_icmp_ge (t := 94) (t2 := 60) dX0_may_57 rfl rfl (fun c_57 => ?_) (fun c_57 => ?_)
    · refine ew_iload (t := 96) dX0_may_94 rfl rfl ?_
      exact ew_iret rfl dX0_may_96 (by decide) (by decide) (by rw [show k = 10 by omega]; exact hq)
    · exact absurd (show (10 : Int32) ≤ nI k by rw [show k = 10 by omega]; decide) c_57
  | succ f1 ih =>
    intro k hk
    refine ew_iload (t := 55) dX0_may_53 rfl rfl ?_
    refine ew_bipush (t := 57) (v := 10) dX0_may_55 (by decide) rfl ?_
    refine ew_icmp_ge (t := 94) (t2 := 60) dX0_may_57 rfl rfl (fun c_57 => ?_) (fun c_57 => ?_)
    · exact absurd c_57 (nI_ge (b := 10) (by omega) (by omega))
    · refine ew_iload (t := 62) dX0_may_60 rfl rfl ?_
      refine ew_aload_n (t := 63) dX0_may_62 rfl rfl rfl ?_
      refine ew_getN (t := 66) (j := 1) (v := .ref (n + 1)) fcX8 ((XH_hi (by omega)).trans hv_hit) (Nat.le_of_ble_eq_true rfl) q537 rfl dX0_may_63 rfl ?_
      refine ew_bipush (t := 68) (v := 10) dX0_may_66 (by decide) rfl ?_
      refine ew_iload_n (t := 69) dX0_may_68 rfl rfl rfl ?_
      refine ew_imul (t := 70) dX0_may_69 rfl ?_
      refine ew_iload (t := 72) dX0_may_70 rfl rfl ?_
      refine ew_iadd (t := 73) dX0_may_72 rfl ?_
      rw [show (10 : Int32) * nI row + nI k = nI (10 * row + k) from by rw [show (10 : Int32) = nI 10 from rfl, pk_mul, nI_add]]
      refine ew_zald (t := 74) (j := (10 * row + k)) (N := 100) ((XH_hi (by omega)).trans ((hv_miss (by omega)).trans hv_hit)) (vp_in_nI (by omega) (by omega)) (nI_clamp (by omega)) dX0_may_73 rfl ?_
      have J85 : ∀ (j85_0 : Int32), j85_0 = ((if (mf (10 * row + k)) = 0 then 0 else ((1 : Int32) <<< ((nI k) &&& 31))) : Int32) → EW l G yX0_may cX0_may 6 (some .int) 33 2 102 Q 2 102 (XH (hov h [(n, OB 7 [.int (nI hr), .ref (n + 1)]), (n + 1, ZA 100 mf)]) s' ce') n2 85 [some (.ref 1), some (.int (nI hr)), some (.int (nI row)), some (.ref n), some (.int (mkB mf row k)), some (.int (nI k))] [.int j85_0, .int (mkB mf row k)] := by
        intro j85_0 hj85_0
        refine ew_ior (t := 86) dX0_may_85 rfl ?_
        refine ew_istore (t := 88) (L' := [some (.ref 1), some (.int (nI hr)), some (.int (nI row)), some (.ref n), some (.int ((mkB mf row k) ||| j85_0)), some (.int (nI k))]) dX0_may_86 (Nat.le_of_ble_eq_true rfl) rfl rfl ?_
        refine ew_iinc (t := 91) (x := (nI k)) (v := ((nI k) + 1)) (L' := [some (.ref 1), some (.int (nI hr)), some (.int (nI row)), some (.ref n), some (.int ((mkB mf row k) ||| j85_0)), some (.int ((nI k) + 1))]) dX0_may_88 rfl rfl (Nat.le_of_ble_eq_true rfl) rfl rfl ?_
        refine ew_goto (t := 53) dX0_may_91 rfl ?_
        rw [nI_1, hj85_0]
        exact ih (k + 1) (by omega)
      refine ew_if_eq (t := 84) (t2 := 77) dX0_may_74 rfl rfl (fun c_74 => ?_) (fun c_74 => ?_)
      · refine ew_ic0 (t := 85) dX0_may_84 rfl ?_
        exact J85 0 (by simp only [if_pos c_74])
      · refine ew_ic1 (t := 78) dX0_may_77 rfl ?_
        refine ew_iload (t := 80) dX0_may_78 rfl rfl ?_
        refine ew_ishl (t := 81) dX0_may_80 rfl ?_
        refine ew_goto (t := 85) dX0_may_81 rfl ?_
        exact J85 ((1 : Int32) <<< ((nI k) &&& 31)) (by simp only [if_neg c_74])
set_option maxHeartbeats 600000 in
theorem xc_may {l : Launch} {G : GW} {h : AH} {n : Nat} {s ce : Nat → Int32} {F : Nat → Nat → Int32} {a b H T S U g wd : Nat} (hn : 63 ≤ n) (x1 : h 1 = some (XO s)) (x16 : h 16 = some (IA 7 ce)) (xt : XT F h) (wk : WKc F a b H T S U g wd) (sc : scX h) (hh rw_ : Int32) : AM l G yX0_may cX0_may 6 (some .int) 33 2 102 [.ref 1, .int hh, .int rw_] h n (XQ s h n (.int (myF H (allW F 0 0 0 a b H T S U) hh rw_))) := by
  refine AM.of (L := [some (.ref 1), some (.int hh), some (.int rw_), none, none, none]) (by decide) (Nat.le_of_ble_eq_true rfl) rfl ?_
  refine ew_iload_n (t := 1) dX0_may_0 rfl rfl rfl ?_
  refine ew_ic0 (t := 2) dX0_may_1 rfl ?_
  refine ew_aload_n (t := 3) dX0_may_2 rfl rfl rfl ?_
  refine ew_get (t := 6) (j := 0) (v := .ref 2) fcX0 x1 (Nat.le_of_ble_eq_true rfl) q255 rfl dX0_may_3 rfl ?_
  refine ew_callV (t := 9) (As := []) (ax_hours xt.1 xt.2.1) (fcX1).1 xt.1 (lw_V q446 q447 q448 q52 q449) rfl naX1_hours dX0_may_6 rfl (Nat.le_of_ble_eq_true rfl) (Nat.le_of_ble_eq_true rfl) (by omega) (by omega) (Nat.le_of_ble_eq_true rfl) rfl (qi ?_)
  rw [wk.2.2.2.2.1]
  refine ew_callS (t := 12) (As := [_, _, _]) (ax_isIn _ _ _) (lw_S q330 q331 q51 q332) naX0_isIn dX0_may_9 rfl (Nat.le_of_ble_eq_true rfl) (Nat.le_of_ble_eq_true rfl) (by omega) (by omega) (Nat.le_of_ble_eq_true rfl) rfl (qi ?_)
  refine ew_if_eq (t := 25) (t2 := 15) dX0_may_12 rfl rfl (fun c_12 => ?_) (fun c_12 => ?_)
  · refine ew_icm1 (t := 26) dX0_may_25 rfl ?_
    exact ew_iret rfl dX0_may_26 (by decide) (by decide) (by rw [show myF H (allW F 0 0 0 a b H T S U) hh rw_ = -1 from if_neg (fun q => b2i_n c_12 ((inL_I hh 0 (nI H)).symm.trans q.1))]; exact XQ.same x1 sc)
  · refine ew_iload_n (t := 16) dX0_may_15 rfl rfl rfl ?_
    refine ew_ic0 (t := 17) dX0_may_16 rfl ?_
    refine ew_bipush (t := 19) (v := 9) dX0_may_17 (by decide) rfl ?_
    refine ew_callS (t := 22) (As := [_, _, _]) (ax_isIn _ _ _) (lw_S q330 q331 q51 q332) naX0_isIn dX0_may_19 rfl (Nat.le_of_ble_eq_true rfl) (Nat.le_of_ble_eq_true rfl) (by omega) (by omega) (Nat.le_of_ble_eq_true rfl) rfl (qi ?_)
    refine ew_if_ne (t := 27) (t2 := 25) dX0_may_22 rfl rfl (fun c_22 => ?_) (fun c_22 => ?_)
    · have hH6 := wk.2.2.2.2.2.2.1
      obtain ⟨hr, -, hhr, rfl⟩ := inI_nat (c := hh) (lo := 0) (hi := H) (by omega) (by omega) (b2i_1.mp c_12)
      obtain ⟨row, -, hrow, rfl⟩ := inI_nat (c := rw_) (lo := 0) (hi := 9) (by omega) (by omega) (b2i_1.mp c_22)
      refine ew_new (t := 30) (fs := [.int 0, .null]) (h' := (hov h [(n, OB 7 [.int 0, .null])])) fcX8 dX0_may_27 q528 q529 q66 (by decide) (by decide) rfl hov_up0 rfl ?_
      refine ew_dup (t := 31) dX0_may_30 rfl rfl ?_
      refine ew_callIN (t := 34) (As := []) (ax_i8 (h := (hov h [(n, OB 7 [.int 0, .null])])) (n := n + 1) (c := n) (by omega) hv_hit) q530 q531 q66 q532 rfl naX8_init dX0_may_31 rfl (Nat.le_of_ble_eq_true rfl) (Nat.le_of_ble_eq_true rfl) (by omega) (by omega) (Nat.le_of_ble_eq_true rfl) rfl (qv ?_)
      refine EW.heap (h' := (hov h [(n, OB 7 [.int 0, .ref (n + 1)]), ((n + 1), ZA 100 (fun _ => 0))])) (hov_ov4 (by omega)) ?_
      refine ew_astore_n (t := 35) (L' := [some (.ref 1), some (.int (nI hr)), some (.int (nI row)), some (.ref n), none, none]) dX0_may_34 rfl (Nat.le_of_ble_eq_true rfl) rfl rfl ?_
      refine ew_aload_n (t := 36) dX0_may_35 rfl rfl rfl ?_
      refine ew_iload_n (t := 37) dX0_may_36 rfl rfl rfl ?_
      refine ew_putN (t := 40) (j := 0) (fs' := [.int (nI hr), .ref (n + 1)]) (h' := (hov h [(n, OB 7 [.int (nI hr), .ref (n + 1)]), ((n + 1), ZA 100 (fun _ => 0))])) fcX8 hv_hit (Nat.le_of_ble_eq_true rfl) rfl q535 rfl rfl (Nat.le_of_ble_eq_true rfl) rfl dX0_may_37 hov_set_hit rfl ?_
      refine ew_aload_n (t := 41) dX0_may_40 rfl rfl rfl ?_
      refine ew_aload_n (t := 42) dX0_may_41 rfl rfl rfl ?_
      refine ew_icm1 (t := 43) dX0_may_42 rfl ?_
      refine ew_ic0 (t := 44) dX0_may_43 rfl ?_
      have kb : KB (mkK h n hr) (F 34) (frX (F 35)) (F 36) := by
        rintro x hb rfl; exact ⟨(below2 (by omega)).trans xt.1, (below2 (by omega)).trans xt.2.1, (below2 (by omega)).trans xt.2.2.1, (below2 (by omega)).trans xt.2.2.2.1⟩
      have ga := ax_goAll (l := l) (G := G) (n := (n + 1 + 1)) (K := mkK h n hr) (tS := (mkT hr)) (to := n) (x := (fun _ => 0)) kb (wk.cf FLG_0) (tl_M hn wk.2.2.2.2.2.2.1 hhr) (by decide) wk.2.2.2.1 wk.2.2.1 (hb := (hov h [(n, OB 7 [.int (nI hr), .ref (n + 1)]), ((n + 1), ZA 100 (fun _ => 0))])) rfl s ce
      rw [XH_id (hb := (hov h [(n, OB 7 [.int (nI hr), .ref (n + 1)]), ((n + 1), ZA 100 (fun _ => 0))])) ((hv_miss (by omega)).trans ((hv_miss (by omega)).trans x1)) ((hv_miss (by omega)).trans ((hv_miss (by omega)).trans x16))] at ga
      refine ew_callV (t := 47) (As := [_, _, _]) (ga) (fcX0).1 ((hv_miss (by omega)).trans ((hv_miss (by omega)).trans x1)) (lw_V q421 q423 qs10 q51 q424) rfl naX0_goAll dX0_may_44 rfl (Nat.le_of_ble_eq_true rfl) (Nat.le_of_ble_eq_true rfl) (by omega) (by omega) (Nat.le_of_ble_eq_true rfl) rfl (fun rr h9 n9 qq => ?_)
      obtain ⟨rfl, qn, hb', s', ce', hk', rfl, kp⟩ := qq
      replace qn := qn.symm
      subst qn
      refine ew_ic0 (t := 48) dX0_may_47 rfl ?_
      refine ew_istore (t := 50) (L' := [some (.ref 1), some (.int (nI hr)), some (.int (nI row)), some (.ref n), some (.int 0), none]) dX0_may_48 (Nat.le_of_ble_eq_true rfl) rfl rfl ?_
      refine ew_ic0 (t := 51) dX0_may_50 rfl ?_
      refine ew_istore (t := 53) (L' := [some (.ref 1), some (.int (nI hr)), some (.int (nI row)), some (.ref n), some (.int 0), some (.int 0)]) dX0_may_51 (Nat.le_of_ble_eq_true rfl) rfl rfl ?_
      rw [fold_M] at hk'
      cases hk'
      refine lx_may (mf := (markF hr (allW F 0 0 0 a b H T S U) (fun _ => 0))) (row := row) hn hrow ?_ 10 0 (by omega)
      rw [show myF H (allW F 0 0 0 a b H T S U) (nI hr) (nI row) = mkB (markF hr (allW F 0 0 0 a b H T S U) (fun _ => 0)) row 10 from by unfold myF; rw [if_pos ⟨(inL_I (nI hr) 0 (nI H)).trans (b2i_1.mp c_12), (inL_I (nI row) 0 9).trans (b2i_1.mp c_22)⟩, nI_clamp (n := hr) (by omega), mkB_bits hhr hrow _ _ wk.okW, mkB_0]]
      exact XQ.of sc (fun k hk => below2 hk) hn (by omega) kp
    · refine ew_icm1 (t := 26) dX0_may_25 rfl ?_
      exact ew_iret rfl dX0_may_26 (by decide) (by decide) (by rw [show myF H (allW F 0 0 0 a b H T S U) hh rw_ = -1 from if_neg (fun q => b2i_n c_22 ((inL_I rw_ 0 9).symm.trans q.2))]; exact XQ.same x1 sc)
