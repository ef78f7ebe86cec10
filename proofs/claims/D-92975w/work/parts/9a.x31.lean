-- Obj fields dict_keys(['cls', 'fun', 'sname', 'refs', 'extra', 'ups'])
/-! the component: piece, clear -/
set_option maxRecDepth 100000
theorem bo_nar {x : Int32} (h : x = 0 ∨ x = 1) : narrow .boolean (.int x) = .int x := by rcases h with rfl | rfl <;> decide
theorem bo_fit {x : Int32} (h : x = 0 ∨ x = 1) : fits .boolean (.int x) = true := by rcases h with rfl | rfl <;> decide
theorem bo_1 {x : Int32} (h : x = 0 ∨ x = 1) : (if ¬ x = 1 then (0 : Int32) else 1) = x := by rcases h with rfl | rfl <;> decide
def pu (F : Nat → Nat → Int32) (np : Nat) (c mo hi ag ne : Int32) : Nat → Nat → Int32 := va_up F 52 (upd (upd (upd (upd (upd (F 52) (5 * np) c) (5 * np + 1) mo) (5 * np + 2) hi) (5 * np + 3) ag) (5 * np + 4) ne)
theorem pcO_1 {F : Nat → Nat → Int32} {np : Nat} {c mo hi ag ne : Int32} : pcO (pu F np c mo hi ag ne) np = [.int c, .int mo, .int hi, .int ag, .int ne] := by
  unfold pcO
  rw [show pu F np c mo hi ag ne 52 = upd (upd (upd (upd (upd (F 52) (5 * np) c) (5 * np + 1) mo) (5 * np + 2) hi) (5 * np + 3) ag) (5 * np + 4) ne from rfl]
  rw [pk_us, pk_un (show ¬ 5 * np + 3 = 5 * np + 4 by omega), pk_us, pk_un (show ¬ 5 * np + 2 = 5 * np + 4 by omega), pk_un (show ¬ 5 * np + 2 = 5 * np + 3 by omega), pk_us]
  rw [pk_un (show ¬ 5 * np + 1 = 5 * np + 4 by omega), pk_un (show ¬ 5 * np + 1 = 5 * np + 3 by omega), pk_un (show ¬ 5 * np + 1 = 5 * np + 2 by omega), pk_us]
  rw [pk_un (show ¬ 5 * np = 5 * np + 4 by omega), pk_un (show ¬ 5 * np = 5 * np + 3 by omega), pk_un (show ¬ 5 * np = 5 * np + 2 by omega), pk_un (show ¬ 5 * np = 5 * np + 1 by omega), pk_us]
theorem pu_o {F : Nat → Nat → Int32} {np k : Nat} {c mo hi ag ne : Int32} (hk : k < 5 * np) : pu F np c mo hi ag ne 52 k = F 52 k := by
  show upd (upd (upd (upd (upd (F 52) (5 * np) c) (5 * np + 1) mo) (5 * np + 2) hi) (5 * np + 3) ag) (5 * np + 4) ne k = _
  rw [pk_un (by omega), pk_un (by omega), pk_un (by omega), pk_un (by omega), pk_un (by omega)]
theorem pcO_2 {F : Nat → Nat → Int32} {np j : Nat} {c mo hi ag ne : Int32} (hj : j < np) : pcO (pu F np c mo hi ag ne) j = pcO F j := by
  unfold pcO
  rw [pu_o (by omega), pu_o (by omega), pu_o (by omega), pu_o (by omega), pu_o (by omega)]
set_option maxHeartbeats 600000 in
theorem ax_i9 {l : Launch} {G : GW} {h : AH} {n : Nat} {c : Nat} {x z b u v : Int32} (hb : b = 0 ∨ b = 1) (xc : h c = some (OB 8 [.int 0, .int 0, .int 0, .int 0, .int 0])) : AM l G yX9_init cX9_init 6 none 1 0 0 [.ref c, .int x, .int z, .int b, .int u, .int v] h n (Qv (hov h [(c, OB 8 [.int x, .int z, .int b, .int u, .int v])]) n) := by
  refine AM.of (L := [some (.ref c), some (.int x), some (.int z), some (.int b), some (.int u), some (.int v)]) (by decide) (Nat.le_of_ble_eq_true rfl) rfl ?_
  refine ew_aload_n (t := 1) dX9_init_0 rfl rfl rfl ?_
  refine ew_objInit (t := 4) q571 q89 q90 dX9_init_1 (by decide) (by decide) rfl ?_
  refine ew_aload_n (t := 5) dX9_init_4 rfl rfl rfl ?_
  refine ew_iload_n (t := 6) dX9_init_5 rfl rfl rfl ?_
  refine ew_putF (t := 9) (j := 0) (fs' := [.int x, .int 0, .int 0, .int 0, .int 0]) (h' := (hov h [(c, OB 8 [.int x, .int 0, .int 0, .int 0, .int 0])])) fcX9 xc (Nat.le_of_ble_eq_true rfl) rfl rfl rfl q572 rfl rfl (Nat.le_of_ble_eq_true rfl) rfl dX9_init_6 hov_up0 rfl ?_
  refine ew_aload_n (t := 10) dX9_init_9 rfl rfl rfl ?_
  refine ew_iload_n (t := 11) dX9_init_10 rfl rfl rfl ?_
  refine ew_putF (t := 14) (j := 1) (fs' := [.int x, .int z, .int 0, .int 0, .int 0]) (h' := (hov h [(c, OB 8 [.int x, .int z, .int 0, .int 0, .int 0])])) fcX9 hv_hit (Nat.le_of_ble_eq_true rfl) rfl rfl rfl q573 rfl rfl (Nat.le_of_ble_eq_true rfl) rfl dX9_init_11 hov_set_hit rfl ?_
  refine ew_aload_n (t := 15) dX9_init_14 rfl rfl rfl ?_
  refine ew_iload_n (t := 16) dX9_init_15 rfl rfl rfl ?_
  refine ew_putF (t := 19) (j := 2) (fs' := [.int x, .int z, .int b, .int 0, .int 0]) (h' := (hov h [(c, OB 8 [.int x, .int z, .int b, .int 0, .int 0])])) fcX9 hv_hit (Nat.le_of_ble_eq_true rfl) rfl rfl rfl q574 (bo_nar hb) (bo_fit hb) (Nat.le_of_ble_eq_true rfl) rfl dX9_init_16 hov_set_hit rfl ?_
  refine ew_aload_n (t := 20) dX9_init_19 rfl rfl rfl ?_
  refine ew_iload (t := 22) dX9_init_20 rfl rfl ?_
  refine ew_putF (t := 25) (j := 3) (fs' := [.int x, .int z, .int b, .int u, .int 0]) (h' := (hov h [(c, OB 8 [.int x, .int z, .int b, .int u, .int 0])])) fcX9 hv_hit (Nat.le_of_ble_eq_true rfl) rfl rfl rfl q575 rfl rfl (Nat.le_of_ble_eq_true rfl) rfl dX9_init_22 hov_set_hit rfl ?_
  refine ew_aload_n (t := 26) dX9_init_25 rfl rfl rfl ?_
  refine ew_iload (t := 28) dX9_init_26 rfl rfl ?_
  refine ew_putF (t := 31) (j := 4) (fs' := [.int x, .int z, .int b, .int u, .int v]) (h' := (hov h [(c, OB 8 [.int x, .int z, .int b, .int u, .int v])])) fcX9 hv_hit (Nat.le_of_ble_eq_true rfl) rfl rfl rfl q576 rfl rfl (Nat.le_of_ble_eq_true rfl) rfl dX9_init_28 hov_set_hit rfl ?_
  exact ew_vret rfl dX9_init_31 (Nat.le_refl _) (Nat.le_refl _) ⟨rfl, rfl, rfl⟩
set_option maxHeartbeats 600000 in
theorem xc_piece {l : Launch} {G : GW} {h : AH} {n : Nat} {s sm : Nat → Int32} {F : Nat → Nat → Int32} {np e : Nat} {mo : Int32} (hn : 63 ≤ n) (x1 : h 1 = some (XO s)) (xt : XT F h) (ls : LSe h n 9 8 np (pcO F) mo e) (hs : sm 25 = nI np) (c mt hi ag ne : Int32) : AM l G yX0_piece cX0_piece 6 (some .int) 6 2 15 [.ref 1, .int c, .int mt, .int hi, .int ag, .int ne] h n (XLQ h n 9 8 e 25 pcO (pieP sm F np c mt hi ag ne)) := by
  refine AM.of (L := [some (.ref 1), some (.int c), some (.int mt), some (.int hi), some (.int ag), some (.int ne)]) (by decide) (Nat.le_of_ble_eq_true rfl) rfl ?_
  have hsz : ∀ (l : Launch) (G : GW) (n' : Nat), AM l G yJ2_size cJ2_size 1 (some .int) 0 0 0 [.ref 9] h n' (Qi (nI np) h n') := fun l G n' => al_size ls.2.1
  refine ew_iload_n (t := 1) dX0_piece_0 rfl rfl rfl ?_
  refine ew_callS (t := 4) (As := [_]) (ax_isCell  _) (lw_S q333 q334 q51 q335) naX0_isCell dX0_piece_1 rfl (Nat.le_of_ble_eq_true rfl) (Nat.le_of_ble_eq_true rfl) (by omega) (by omega) (Nat.le_of_ble_eq_true rfl) rfl (qi ?_)
  refine ew_if_eq (t := 47) (t2 := 7) dX0_piece_4 rfl rfl (fun c_4 => ?_) (fun c_4 => ?_)
  · refine ew_icm1 (t := 48) dX0_piece_47 rfl ?_
    exact ew_iret rfl dX0_piece_48 (by decide) (by decide) (by rw [show pieP sm F np c mt hi ag ne = (-1, sm, F) from by unfold pieP; rw [if_pos c_4]]; exact XLQ.same ls hs)
  · refine ew_iload_n (t := 8) dX0_piece_7 rfl rfl rfl ?_
    refine ew_ic1 (t := 9) dX0_piece_8 rfl ?_
    refine ew_bipush (t := 11) (v := 24) dX0_piece_9 (by decide) rfl ?_
    refine ew_callS (t := 14) (As := [_, _, _]) (ax_isIn _ _ _) (lw_S q330 q331 q51 q332) naX0_isIn dX0_piece_11 rfl (Nat.le_of_ble_eq_true rfl) (Nat.le_of_ble_eq_true rfl) (by omega) (by omega) (Nat.le_of_ble_eq_true rfl) rfl (qi ?_)
    refine ew_if_eq (t := 47) (t2 := 17) dX0_piece_14 rfl rfl (fun c_14 => ?_) (fun c_14 => ?_)
    · refine ew_icm1 (t := 48) dX0_piece_47 rfl ?_
      exact ew_iret rfl dX0_piece_48 (by decide) (by decide) (by rw [show pieP sm F np c mt hi ag ne = (-1, sm, F) from by unfold pieP; rw [if_neg c_4, show inL mt.toInt64 1 24 = inI mt 1 24 from inL_I mt 1 24, if_pos c_14]]; exact XLQ.same ls hs)
    · refine ew_iload_n (t := 18) dX0_piece_17 rfl rfl rfl ?_
      refine ew_ic0 (t := 19) dX0_piece_18 rfl ?_
      refine ew_ic1 (t := 20) dX0_piece_19 rfl ?_
      refine ew_callS (t := 23) (As := [_, _, _]) (ax_isIn _ _ _) (lw_S q330 q331 q51 q332) naX0_isIn dX0_piece_20 rfl (Nat.le_of_ble_eq_true rfl) (Nat.le_of_ble_eq_true rfl) (by omega) (by omega) (Nat.le_of_ble_eq_true rfl) rfl (qi ?_)
      refine ew_if_eq (t := 47) (t2 := 26) dX0_piece_23 rfl rfl (fun c_23 => ?_) (fun c_23 => ?_)
      · refine ew_icm1 (t := 48) dX0_piece_47 rfl ?_
        exact ew_iret rfl dX0_piece_48 (by decide) (by decide) (by rw [show pieP sm F np c mt hi ag ne = (-1, sm, F) from by unfold pieP; rw [if_neg c_4, show inL mt.toInt64 1 24 = inI mt 1 24 from inL_I mt 1 24, if_neg c_14, show inL hi.toInt64 0 1 = inI hi 0 1 from inL_I hi 0 1, if_pos c_23]]; exact XLQ.same ls hs)
      · refine ew_iload (t := 28) dX0_piece_26 rfl rfl ?_
        refine ew_ic0 (t := 29) dX0_piece_28 rfl ?_
        refine ew_iload_n (t := 30) dX0_piece_29 rfl rfl rfl ?_
        refine ew_callS (t := 33) (As := [_, _, _]) (ax_isIn _ _ _) (lw_S q330 q331 q51 q332) naX0_isIn dX0_piece_30 rfl (Nat.le_of_ble_eq_true rfl) (Nat.le_of_ble_eq_true rfl) (by omega) (by omega) (Nat.le_of_ble_eq_true rfl) rfl (qi ?_)
        refine ew_if_eq (t := 47) (t2 := 36) dX0_piece_33 rfl rfl (fun c_33 => ?_) (fun c_33 => ?_)
        · refine ew_icm1 (t := 48) dX0_piece_47 rfl ?_
          exact ew_iret rfl dX0_piece_48 (by decide) (by decide) (by rw [show pieP sm F np c mt hi ag ne = (-1, sm, F) from by unfold pieP; rw [if_neg c_4, show inL mt.toInt64 1 24 = inI mt 1 24 from inL_I mt 1 24, if_neg c_14, show inL hi.toInt64 0 1 = inI hi 0 1 from inL_I hi 0 1, if_neg c_23, show inL ag.toInt64 0 mt.toInt64 = inI ag 0 mt from inL_I ag 0 mt, if_pos c_33]]; exact XLQ.same ls hs)
        · refine ew_iload (t := 38) dX0_piece_36 rfl rfl ?_
          refine ew_ic0 (t := 39) dX0_piece_38 rfl ?_
          refine ew_bipush (t := 41) (v := 9) dX0_piece_39 (by decide) rfl ?_
          refine ew_callS (t := 44) (As := [_, _, _]) (ax_isIn _ _ _) (lw_S q330 q331 q51 q332) naX0_isIn dX0_piece_41 rfl (Nat.le_of_ble_eq_true rfl) (Nat.le_of_ble_eq_true rfl) (by omega) (by omega) (Nat.le_of_ble_eq_true rfl) rfl (qi ?_)
          refine ew_if_ne (t := 49) (t2 := 47) dX0_piece_44 rfl rfl (fun c_44 => ?_) (fun c_44 => ?_)
          · refine ew_aload_n (t := 50) dX0_piece_49 rfl rfl rfl ?_
            refine ew_get (t := 53) (j := 0) (v := .ref 2) fcX0 x1 (Nat.le_of_ble_eq_true rfl) q255 rfl dX0_piece_50 rfl ?_
            refine ew_getN (t := 56) (j := 6) (v := .ref 9) fcX1 xt.1 (Nat.le_of_ble_eq_true rfl) q140 rfl dX0_piece_53 rfl ?_
            refine ew_callF (t := 61) (As := []) (hsz l G n) (fcJ2).1 ls.2.1 (lw_F q557 q561 q563 q55 q565) fw_size naI_J2_size dX0_piece_56 rfl (Nat.le_of_ble_eq_true rfl) (Nat.le_of_ble_eq_true rfl) (by omega) (by omega) (Nat.le_of_ble_eq_true rfl) rfl (qi ?_)
            refine ew_ic4 (t := 62) dX0_piece_61 rfl ?_
            refine ew_icmp_ne (t := 68) (t2 := 65) dX0_piece_62 rfl rfl (fun c_62 => ?_) (fun c_62 => ?_)
            · refine ew_aload_n (t := 69) dX0_piece_68 rfl rfl rfl ?_
              refine ew_get (t := 72) (j := 0) (v := .ref 2) fcX0 x1 (Nat.le_of_ble_eq_true rfl) q255 rfl dX0_piece_69 rfl ?_
              refine ew_getN (t := 75) (j := 6) (v := .ref 9) fcX1 xt.1 (Nat.le_of_ble_eq_true rfl) q140 rfl dX0_piece_72 rfl ?_
              refine ew_new (t := 78) (fs := [.int 0, .int 0, .int 0, .int 0, .int 0]) (h' := (hov h [(n, OB 8 [.int 0, .int 0, .int 0, .int 0, .int 0])])) fcX9 dX0_piece_75 q566 q567 q67 (by decide) (by decide) rfl hov_up0 rfl ?_
              refine ew_dup (t := 79) dX0_piece_78 rfl rfl ?_
              refine ew_iload_n (t := 80) dX0_piece_79 rfl rfl rfl ?_
              refine ew_iload_n (t := 81) dX0_piece_80 rfl rfl rfl ?_
              refine ew_iload_n (t := 82) dX0_piece_81 rfl rfl rfl ?_
              refine ew_ic1 (t := 83) dX0_piece_82 rfl ?_
              have J91 : ∀ (j91_0 : Int32), j91_0 = ((if ¬ hi = 1 then 0 else 1) : Int32) → EW l G yX0_piece cX0_piece 6 (some .int) 6 2 15 (XLQ h n 9 8 e 25 pcO (pieP sm F np c mt hi ag ne)) (0 + 1) (0 + 5) (hov h [(n, OB 8 [.int 0, .int 0, .int 0, .int 0, .int 0])]) (n + 1) 91 [some (.ref 1), some (.int c), some (.int mt), some (.int hi), some (.int ag), some (.int ne)] [.int j91_0, .int mt, .int c, .ref n, .ref n, .ref 9] := by
                intro j91_0 hj91_0
                rw [show j91_0 = hi from hj91_0.trans (bo_1 (in01 c_23))]
                refine ew_iload (t := 93) dX0_piece_91 rfl rfl ?_
                refine ew_iload (t := 95) dX0_piece_93 rfl rfl ?_
                refine ew_callI (t := 98) (As := [_, _, _, _, _]) (ax_i9 (h := (hov h [(n, OB 8 [.int 0, .int 0, .int 0, .int 0, .int 0])])) (n := n + 1) (c := n) (in01 c_23) hv_hit) q568 q569 q67 q570 rfl naX9_init dX0_piece_95 rfl (Nat.le_of_ble_eq_true rfl) (Nat.le_of_ble_eq_true rfl) (by omega) (by omega) (Nat.le_of_ble_eq_true rfl) rfl (qv ?_)
                refine EW.heap (h' := (hov h [(n, OB 8 [.int c, .int mt, .int hi, .int ag, .int ne])])) hov_ov1 ?_
                have hnp4 : np < 4 := by have := ls.1; have : np ≠ 4 := fun q => c_62 (by rw [q]; rfl); omega
                rcases ls.2.2 with ⟨e0, n0⟩ | ⟨he1, he2, f, xe, hf⟩
                · subst e0
                  subst n0
                  refine ew_callF (t := 103) (As := [_]) (al_add0 (h := (hov h [(n, OB 8 [.int c, .int mt, .int hi, .int ag, .int ne])])) (n := n + 1) (c := 9) (p := n) (by omega) (by omega) ((hv_miss (by omega)).trans ls.2.1) (fcX9).1 q1422 hv_hit (by omega) (by omega)) (fcJ2).1 ((hv_miss (by omega)).trans ls.2.1) (lw_F q589 q592 q594 q55 q596) fw_add naI_J2_add dX0_piece_98 rfl (Nat.le_of_ble_eq_true rfl) (Nat.le_of_ble_eq_true rfl) (by omega) (by omega) (Nat.le_of_ble_eq_true rfl) rfl (qi ?_)
                  refine ew_pop (t := 104) dX0_piece_103 rfl rfl ?_
                  refine ew_aload_n (t := 105) dX0_piece_104 rfl rfl rfl ?_
                  refine ew_get (t := 108) (j := 0) (v := .ref 2) fcX0 ((hv_miss (by omega)).trans ((hv_miss (by omega)).trans ((hv_miss (by omega)).trans x1))) (Nat.le_of_ble_eq_true rfl) q255 rfl dX0_piece_105 rfl ?_
                  refine ew_getN (t := 111) (j := 6) (v := .ref 9) fcX1 ((hv_miss (by omega)).trans ((hv_miss (by omega)).trans ((hv_miss (by omega)).trans xt.1))) (Nat.le_of_ble_eq_true rfl) q140 rfl dX0_piece_108 rfl ?_
                  refine ew_callF (t := 116) (As := []) (al_size ((hv_miss (by omega)).trans hv_hit)) (fcJ2).1 ((hv_miss (by omega)).trans hv_hit) (lw_F q557 q561 q563 q55 q565) fw_size naI_J2_size dX0_piece_111 rfl (Nat.le_of_ble_eq_true rfl) (Nat.le_of_ble_eq_true rfl) (by omega) (by omega) (Nat.le_of_ble_eq_true rfl) rfl (qi ?_)
                  refine ew_ic1 (t := 117) dX0_piece_116 rfl ?_
                  refine ew_isub (t := 118) dX0_piece_117 rfl ?_
                  exact ew_iret rfl dX0_piece_118 (by decide) (by decide) (by rw [show pieP sm F 0 c mt hi ag ne = (nI 0, upd sm 25 (nI (0 + 1)), pu F 0 c mt hi ag ne) from by unfold pieP; rw [if_neg c_4, show inL mt.toInt64 1 24 = inI mt 1 24 from inL_I mt 1 24, if_neg c_14, show inL hi.toInt64 0 1 = inI hi 0 1 from inL_I hi 0 1, if_neg c_23, show inL ag.toInt64 0 mt.toInt64 = inI ag 0 mt from inL_I ag 0 mt, if_neg c_33, show inL ne.toInt64 0 9 = inI ne 0 9 from inL_I ne 0 9, if_pos c_44, if_pos c_62]; rfl]; exact XLQ.add0 hn (by omega) rfl pcO_1)
                · refine ew_callF (t := 103) (As := [_]) (al_add1 (h := (hov h [(n, OB 8 [.int c, .int mt, .int hi, .int ag, .int ne])])) (n := n + 1) (c := 9) (p := n) (by omega) (by omega) ((hv_miss (by omega)).trans ls.2.1) ((hv_miss (by omega)).trans xe) (fcX9).1 q1422 hv_hit (by omega) (by omega)) (fcJ2).1 ((hv_miss (by omega)).trans ls.2.1) (lw_F q589 q592 q594 q55 q596) fw_add naI_J2_add dX0_piece_98 rfl (Nat.le_of_ble_eq_true rfl) (Nat.le_of_ble_eq_true rfl) (by omega) (by omega) (Nat.le_of_ble_eq_true rfl) rfl (qi ?_)
                  refine ew_pop (t := 104) dX0_piece_103 rfl rfl ?_
                  refine ew_aload_n (t := 105) dX0_piece_104 rfl rfl rfl ?_
                  refine ew_get (t := 108) (j := 0) (v := .ref 2) fcX0 ((hv_miss (by omega)).trans ((hv_miss (by omega)).trans ((hv_miss (by omega)).trans x1))) (Nat.le_of_ble_eq_true rfl) q255 rfl dX0_piece_105 rfl ?_
                  refine ew_getN (t := 111) (j := 6) (v := .ref 9) fcX1 ((hv_miss (by omega)).trans ((hv_miss (by omega)).trans ((hv_miss (by omega)).trans xt.1))) (Nat.le_of_ble_eq_true rfl) q140 rfl dX0_piece_108 rfl ?_
                  refine ew_callF (t := 116) (As := []) (al_size ((hv_miss (by omega)).trans hv_hit)) (fcJ2).1 ((hv_miss (by omega)).trans hv_hit) (lw_F q557 q561 q563 q55 q565) fw_size naI_J2_size dX0_piece_111 rfl (Nat.le_of_ble_eq_true rfl) (Nat.le_of_ble_eq_true rfl) (by omega) (by omega) (Nat.le_of_ble_eq_true rfl) rfl (qi ?_)
                  refine ew_ic1 (t := 117) dX0_piece_116 rfl ?_
                  refine ew_isub (t := 118) dX0_piece_117 rfl ?_
                  exact ew_iret rfl dX0_piece_118 (by decide) (by decide) (by rw [show pieP sm F np c mt hi ag ne = (nI np, upd sm 25 (nI (np + 1)), pu F np c mt hi ag ne) from by unfold pieP; rw [if_neg c_4, show inL mt.toInt64 1 24 = inI mt 1 24 from inL_I mt 1 24, if_neg c_14, show inL hi.toInt64 0 1 = inI hi 0 1 from inL_I hi 0 1, if_neg c_23, show inL ag.toInt64 0 mt.toInt64 = inI ag 0 mt from inL_I ag 0 mt, if_neg c_33, show inL ne.toInt64 0 9 = inI ne 0 9 from inL_I ne 0 9, if_pos c_44, if_pos c_62]; rfl, nI_m1]; exact XLQ.add1 (F0 := F) hn (by omega) hnp4 he1 he2 xe hf rfl pcO_1 (fun j hj => pcO_2 hj))
              refine ew_icmp_ne (t := 90) (t2 := 86) dX0_piece_83 rfl rfl (fun c_83 => ?_) (fun c_83 => ?_)
              · refine ew_ic0 (t := 91) dX0_piece_90 rfl ?_
                exact J91 0 (by simp only [if_pos c_83])
              · refine ew_ic1 (t := 87) dX0_piece_86 rfl ?_
                refine ew_goto (t := 91) dX0_piece_87 rfl ?_
                exact J91 1 (by simp only [if_neg (not_not_intro c_83)])
            · refine ew_bipush (t := 67) (v := (-3)) dX0_piece_65 (by decide) rfl ?_
              exact ew_iret rfl dX0_piece_67 (by decide) (by decide) (by rw [show pieP sm F np c mt hi ag ne = (-3, sm, F) from by unfold pieP; rw [if_neg c_4, show inL mt.toInt64 1 24 = inI mt 1 24 from inL_I mt 1 24, if_neg c_14, show inL hi.toInt64 0 1 = inI hi 0 1 from inL_I hi 0 1, if_neg c_23, show inL ag.toInt64 0 mt.toInt64 = inI ag 0 mt from inL_I ag 0 mt, if_neg c_33, show inL ne.toInt64 0 9 = inI ne 0 9 from inL_I ne 0 9, if_pos c_44, if_neg (not_not_intro c_62)]]; exact XLQ.same ls hs)
          · refine ew_icm1 (t := 48) dX0_piece_47 rfl ?_
            exact ew_iret rfl dX0_piece_48 (by decide) (by decide) (by rw [show pieP sm F np c mt hi ag ne = (-1, sm, F) from by unfold pieP; rw [if_neg c_4, show inL mt.toInt64 1 24 = inI mt 1 24 from inL_I mt 1 24, if_neg c_14, show inL hi.toInt64 0 1 = inI hi 0 1 from inL_I hi 0 1, if_neg c_23, show inL ag.toInt64 0 mt.toInt64 = inI ag 0 mt from inL_I ag 0 mt, if_neg c_33, show inL ne.toInt64 0 9 = inI ne 0 9 from inL_I ne 0 9, if_neg (not_not_intro c_44)]]; exact XLQ.same ls hs)
