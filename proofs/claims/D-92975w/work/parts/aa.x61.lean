-- Obj fields dict_keys(['cls', 'fun', 'sname', 'refs', 'extra', 'ups'])
/-! the component: item -/
set_option maxRecDepth 100000
theorem refI_0 {LN SZ : Nat → Int32} {t : Nat} {lane i nn : Int32} (h : LN t < 0) : refI LN SZ t lane i nn = -11 := if_neg (Int32.not_le.mpr h)
theorem refI_1 {LN SZ : Nat → Int32} {t : Nat} {lane i nn : Int32} (h : 0 ≤ LN t) (h2 : ¬ LN t = lane) : refI LN SZ t lane i nn = -12 := by
  unfold refI
  rw [if_pos h, if_neg h2]
theorem refI_2 {LN SZ : Nat → Int32} {t z m : Nat} {lane i : Int32} (hm : m ≤ 16) (hz : z ≤ 16) (eZ : SZ t = nI z) (h : 0 ≤ LN t) (h2 : LN t = lane) (ho : ∀ k, i = nI k → ¬ k + m ≤ z) : refI LN SZ t lane i (nI m) = -13 := by
  unfold refI
  rw [if_pos h, if_pos h2]
  by_cases c3 : i < 0
  · rw [if_pos c3]
  · rw [if_neg c3, if_neg]
    intro c4
    obtain ⟨k, hk, rfl⟩ := nI_of c3
    rw [eZ] at c4
    rw [nI_l (by omega), nI_l (by omega), nI_l (by omega), lN_add] at c4
    exact ho k rfl ((pk_lLE (by omega) (by omega)).mp c4)
theorem refI_3 {LN SZ : Nat → Int32} {t z m k : Nat} {lane : Int32} (hz : z ≤ 16) (eZ : SZ t = nI z) (h : 0 ≤ LN t) (h2 : LN t = lane) (ho : k + m ≤ z) : refI LN SZ t lane (nI k) (nI m) = 0 := by
  unfold refI
  rw [if_pos h, if_pos h2, if_neg (Int32.not_lt.mpr (nI_nn (by omega))), if_pos]
  rw [eZ, nI_l (by omega), nI_l (by omega), nI_l (by omega), lN_add]
  exact (pk_lLE (by omega) (by omega)).mpr ho
/-- a row of a sheet is changed -/
theorem SHt.upd1 {F : Nat → Nat → Int32} {h : AH} {n t t2 ln z : Nat} {rr : Nat → Nat} {f g : Nat → Int32} {G61 : Nat → Int32} (d : rrD F rr) (ht : t < 4) (ht2 : t2 < 4) (hl : ln < 3) (hz : z ≤ 16) (e59 : F 59 t = nI ln) (e60 : F 60 t = nI z) (hr : 63 ≤ rr t) (hrn : rr t < n) (s0 : h (29 + t) = some (OB 3 [.ref (rr t)])) (hg : ∀ j, j < z → g j = G61 (16 * t + j)) (hG : ∀ q, ¬ (16 * t ≤ q ∧ q < 16 * t + 16) → G61 q = F 61 q) (s : SHt F h n t2 (rr t2)) : SHt (va_up F 61 G61) (hov h [(rr t, rwA ln z g)]) n t2 (rr t2) := by
  by_cases e : t2 = t
  · subst e
    exact Or.inr ⟨ln, z, g, hl, hz, e59, e60, hr, hrn, (hv_miss (by omega)).trans s0, hv_hit, hg⟩
  · rcases s with ⟨q1, q2⟩ | ⟨ln2, z2, f2, q1, q2, q3, q4, q5, q6, q7, q8, q9⟩
    · exact Or.inl ⟨q1, (hv_miss (by omega)).trans q2⟩
    · refine Or.inr ⟨ln2, z2, f2, q1, q2, q3, q4, q5, q6, (hv_miss (by omega)).trans q7, (hv_miss (fun z => e (d t2 t ht2 ht (by rw [q3]; exact nI_nn (by omega)) (by rw [e59]; exact nI_nn (by omega)) z))).trans q8, fun j hj => ?_⟩
      rw [q9 j hj]
      exact (hG _ (by omega)).symm
theorem SPQ.upd1 {h : AH} {n t ln z : Nat} {rr : Nat → Nat} {sm : Nat → Int32} {F : Nat → Nat → Int32} {v : Int32} {g : Nat → Int32} {G61 : Nat → Int32} (sh : SHx F h n rr) (dd : rrD F rr) (ht : t < 4) (hl : ln < 3) (hz : z ≤ 16) (e59 : F 59 t = nI ln) (e60 : F 60 t = nI z) (hr : 63 ≤ rr t) (hrn : rr t < n) (s0 : h (29 + t) = some (OB 3 [.ref (rr t)])) (hg : ∀ j, j < z → g j = G61 (16 * t + j)) (hG : ∀ q, ¬ (16 * t ≤ q ∧ q < 16 * t + 16) → G61 q = F 61 q) : SPQ h n rr (v, sm, va_up F 61 G61) (some (.int v)) (hov h [(rr t, rwA ln z g)]) n := by
  refine ⟨rfl, Nat.le_refl _, rr, ⟨(hv_miss (by omega)).trans sh.1, fun t2 ht2 => (sh.2 t2 ht2).upd1 (f := g) dd ht ht2 hl hz e59 e60 hr hrn s0 hg hG⟩, dd, fun _ _ => Or.inl rfl, fun k k1 k2 k3 => hv_miss (fun e => k3 ⟨by omega, t, ht, e⟩)⟩
theorem ht_itemN {pc : Nat} (h1 : 16 ≤ pc) (h2 : pc < 100) : HT yX0_item pc "java/lang/NullPointerException" 103 := ⟨[], [(16, 100, 108, 373), (16, 100, 113, 375)], 16, 100, 371, _, by decide +kernel, h1, h2, by decide, q935, Or.inl rfl, fun z hz => by cases hz⟩
theorem ht_itemC {pc : Nat} (h1 : 16 ≤ pc) (h2 : pc < 100) : HT yX0_item pc "java/lang/ClassCastException" 108 := ⟨[(16, 100, 103, 371)], [(16, 100, 113, 375)], 16, 100, 373, _, by decide +kernel, h1, h2, by decide, q960, Or.inl rfl, fun z hz => by
  rcases List.mem_singleton.mp hz with rfl
  exact ⟨h1, h2, by decide, _, q935, by decide⟩⟩
theorem ht_itemO {pc : Nat} (h1 : 16 ≤ pc) (h2 : pc < 100) : HT yX0_item pc "java/lang/ArrayIndexOutOfBoundsException" 113 := ⟨[(16, 100, 103, 371), (16, 100, 108, 373)], [], 16, 100, 375, _, by decide +kernel, h1, h2, by decide, q974, Or.inl rfl, fun z hz => by
  rcases List.mem_cons.mp hz with rfl | hz
  · exact ⟨h1, h2, by decide, _, q935, by decide⟩
  · rcases List.mem_singleton.mp hz with rfl
    exact ⟨h1, h2, by decide, _, q960, by decide⟩⟩
set_option maxHeartbeats 600000 in
theorem xc_item {l : Launch} {G : GW} {h : AH} {n : Nat} (hfl : noTr l) {s sm : Nat → Int32} {F : Nat → Nat → Int32} {rr : Nat → Nat} (x1 : h 1 = some (XO s)) (sh : SHx F h n rr) (dd : rrD F rr) (h63 : 63 ≤ n) (c lane i v : Int32) : AMW l G yX0_item cX0_item 6 (some .int) 300 3 4010 [.ref 1, .int c, .int lane, .int i, .int v] h n (SPQ h n rr (itmP sm F c lane i v)) := by
  refine AMW.of (L := [some (.ref 1), some (.int c), some (.int lane), some (.int i), some (.int v), none]) (by decide) (Nat.le_of_ble_eq_true rfl) rfl ?_
  refine ew_iload_n (t := 1) dX0_item_0 rfl rfl rfl ?_
  refine ew_callS (t := 4) (As := [_]) (ax_isSheet  _) (lw_S q802 q803 q51 q804) naX0_isSheet dX0_item_1 rfl (Nat.le_of_ble_eq_true rfl) (Nat.le_of_ble_eq_true rfl) (by omega) (by omega) (Nat.le_of_ble_eq_true rfl) rfl (qi ?_)
  refine ew_if_eq (t := 14) (t2 := 7) dX0_item_4 rfl rfl (fun c_4 => ?_) (fun c_4 => ?_)
  · refine ew_icm1 (t := 15) dX0_item_14 rfl ?_
    exact ew_iret rfl dX0_item_15 (by omega) (by omega) (by unfold itmP; rw [if_pos c_4]; exact SPQ.same (d := 0) h63 sh dd)
  · refine ew_iload_n (t := 8) dX0_item_7 rfl rfl rfl ?_
    refine ew_callS (t := 11) (As := [_]) (ax_isLane  _) (lw_S q805 q806 q51 q807) naX0_isLane dX0_item_8 rfl (Nat.le_of_ble_eq_true rfl) (Nat.le_of_ble_eq_true rfl) (by omega) (by omega) (Nat.le_of_ble_eq_true rfl) rfl (qi ?_)
    refine ew_if_ne (t := 16) (t2 := 14) dX0_item_11 rfl rfl (fun c_11 => ?_) (fun c_11 => ?_)
    · obtain ⟨t, -, ht, rfl⟩ := inI_nat (c := c) (lo := 0) (hi := 3) (by omega) (by omega) (b2i_1.mp c_4)
      replace ht : t < 4 := by omega
      obtain ⟨ln, -, hln, rfl⟩ := inI_nat (c := lane) (lo := 0) (hi := 2) (by omega) (by omega) (b2i_1.mp c_11)
      have hQ : itmP sm F (nI t) (nI ln) i v = if 0 ≤ refI (F 59) (F 60) t (nI ln) i (nI 1) then (1, sm, va_up F 61 (upd (F 61) (16 * t + i.toNatClampNeg) (nrI (nI ln) v))) else (refI (F 59) (F 60) t (nI ln) i (nI 1), sm, F) := by
        unfold itmP
        rw [if_neg c_4, if_pos c_11, nI_clamp (n := t) (by omega)]
        rfl
      have HN : ∀ pc, 16 ≤ pc → pc < 100 → refI (F 59) (F 60) t (nI ln) i (nI 1) = -11 → EN l G yX0_item cX0_item 6 (some .int) 300 3 4010 (SPQ h n rr (itmP sm F (nI t) (nI ln) i v)) 0 0 h n pc [some (.ref 1), some (.int (nI t)), some (.int (nI ln)), some (.int i), some (.int v), none] "java/lang/NullPointerException" none := by
        intro pc h1 h2 hr
        refine en_npe hfl (by omega) (by omega) (by omega) (ht_itemN h1 h2) ?_
        refine ew_astore (t := 105) (L' := [some (.ref 1), some (.int (nI t)), some (.int (nI ln)), some (.int i), some (.int v), some (.ref n)]) dX0_item_103 (Nat.le_of_ble_eq_true rfl) rfl rfl ?_
        refine ew_bipush (t := 107) (v := (-11)) dX0_item_105 (by decide) rfl ?_
        exact ew_iret rfl dX0_item_107 (by omega) (by omega) (by rw [hQ, hr, if_neg (by decide)]; exact SPQ.same h63 sh dd)
      have HC : ∀ pc, 16 ≤ pc → pc < 100 → refI (F 59) (F 60) t (nI ln) i (nI 1) = -12 → ∀ text : String, (text == notModelled) = false → (stringBytes (stringToUtf16 text)).size ≤ 4000 → EN l G yX0_item cX0_item 6 (some .int) 300 3 4010 (SPQ h n rr (itmP sm F (nI t) (nI ln) i v)) 0 0 h n pc [some (.ref 1), some (.int (nI t)), some (.int (nI ln)), some (.int i), some (.int v), none] "java/lang/ClassCastException" (some text) := by
        intro pc h1 h2 hr text g1 g2
        refine en_msg hfl (by omega) (by omega) (by omega) (names := ["java/lang/RuntimeException", "java/lang/Exception"]) (by decide) (by decide) (by decide) (by decide) (by decide) (fun C => at_cce C) g1 g2 (ht_itemC h1 h2) ?_
        refine ew_astore (t := 110) (L' := [some (.ref 1), some (.int (nI t)), some (.int (nI ln)), some (.int i), some (.int v), some (.ref (n + 2))]) dX0_item_108 (Nat.le_of_ble_eq_true rfl) rfl rfl ?_
        refine ew_bipush (t := 112) (v := (-12)) dX0_item_110 (by decide) rfl ?_
        exact ew_iret rfl dX0_item_112 (by omega) (by omega) (by rw [hQ, hr, if_neg (by decide)]; exact SPQ.same h63 sh dd)
      have HO : ∀ pc, 16 ≤ pc → pc < 100 → refI (F 59) (F 60) t (nI ln) i (nI 1) = -13 → ∀ z, z ≤ 16 → EN l G yX0_item cX0_item 6 (some .int) 300 3 4010 (SPQ h n rr (itmP sm F (nI t) (nI ln) i v)) 0 0 h n pc [some (.ref 1), some (.int (nI t)), some (.int (nI ln)), some (.int i), some (.int v), none] "java/lang/ArrayIndexOutOfBoundsException" (some (idxT i z)) := by
        intro pc h1 h2 hr z hz
        refine en_msg hfl (by omega) (by omega) (by omega) (names := ["java/lang/IndexOutOfBoundsException", "java/lang/RuntimeException", "java/lang/Exception"]) (by decide) (by decide) (by decide) (by decide) (by decide) (fun C => at_aio C) (index_text_modelled i z) (Nat.le_trans (index_text_bytes i (n := z) (by omega)) (by omega)) (ht_itemO h1 h2) ?_
        refine ew_astore (t := 115) (L' := [some (.ref 1), some (.int (nI t)), some (.int (nI ln)), some (.int i), some (.int v), some (.ref (n + 2))]) dX0_item_113 (Nat.le_of_ble_eq_true rfl) rfl rfl ?_
        refine ew_bipush (t := 117) (v := (-13)) dX0_item_115 (by decide) rfl ?_
        exact ew_iret rfl dX0_item_117 (by omega) (by omega) (by rw [hQ, hr, if_neg (by decide)]; exact SPQ.same h63 sh dd)
      refine ew_iload_n (t := 17) dX0_item_16 rfl rfl rfl ?_
      match ln, hln with
      | 0, _ =>
        refine ew_lookup (t := 44) (off := 27) dX0_item_17 (by decide) (by decide) (by decide) ?_
        refine ew_aload_n (t := 45) dX0_item_44 rfl rfl rfl ?_
        refine ew_get (t := 48) (j := 20) (v := .ref 28) fcX0 x1 (Nat.le_of_ble_eq_true rfl) q282 rfl dX0_item_45 rfl ?_
        refine ew_iload_n (t := 49) dX0_item_48 rfl rfl rfl ?_
        refine ew_aald6 (t := 50) (j := t) sh.1 (vp_in_nI ht (by omega)) (nI_clamp (by omega)) dX0_item_49 rfl ?_
        rw [show va_rf (shT t) = .ref (29 + t) from rfl]
        rcases sh.2 t ht with ⟨q1, q2⟩ | ⟨l2, z, f, q1, q2, q3, q4, q5, q6, q7, q8, q9⟩
        · refine ew_getN (t := 53) (j := 0) (v := .null) fcX3 q2 (Nat.le_of_ble_eq_true rfl) q248 rfl dX0_item_50 rfl ?_
          refine ew_castN (t := 56) dX0_item_53 rfl ?_
          refine ew_iload_n (t := 57) dX0_item_56 rfl rfl rfl ?_
          refine ew_iload (t := 59) dX0_item_57 rfl rfl ?_
          refine ew_i2b (t := 60) dX0_item_59 rfl ?_
          exact ew_bastN dX0_item_60 (Nat.le_of_ble_eq_true rfl) (HN 60 (by omega) (by omega) (refI_0 q1))
        · refine ew_getN (t := 53) (j := 0) (v := .ref (rr t)) fcX3 q7 (Nat.le_of_ble_eq_true rfl) q248 rfl dX0_item_50 rfl ?_
          have hn0 : 0 ≤ F 59 t := by rw [q3]; exact nI_nn (by omega)
          match l2, q1 with
          | 0, _ =>
            refine ew_castA (t := 56) (ty := .byte) q8 rfl baN q993 dX0_item_53 rfl ?_
            refine ew_iload_n (t := 57) dX0_item_56 rfl rfl rfl ?_
            refine ew_iload (t := 59) dX0_item_57 rfl rfl ?_
            refine ew_i2b (t := 60) dX0_item_59 rfl ?_
            by_cases ho : i < 0 ∨ z ≤ i.toNatClampNeg
            · exact ew_bastO q8 ho dX0_item_60 (Nat.le_of_ble_eq_true rfl) (HO 60 (by omega) (by omega) (refI_2 (m := 1) (by omega) q2 q4 hn0 q3 (fun k hk hle => by
                subst hk
                rcases ho with g | g
                · exact absurd g (Int32.not_lt.mpr (nI_nn (by omega)))
                · rw [nI_clamp (by omega)] at g
                  omega)) z q2)
            · have hi0 : ¬ i < 0 := fun g => ho (Or.inl g)
              obtain ⟨j, hj, rfl⟩ := nI_of hi0
              have hjz : j < z := by
                refine Nat.lt_of_not_le (fun g => ho (Or.inr ?_))
                rw [nI_clamp hj]
                exact g
              refine ew_bast (t := 61) (j := j) (N := z) (h' := (hov h [(rr t, BA z (upd f j (vp_nar .byte v.toInt8.toInt32)))])) q8 ho (nI_clamp hj) dX0_item_60 hov_up0 rfl ?_
              refine ew_goto (t := 100) dX0_item_61 rfl ?_
              refine ew_goto (t := 118) dX0_item_100 rfl ?_
              refine ew_ic1 (t := 119) dX0_item_118 rfl ?_
              refine ew_iret rfl dX0_item_119 (by omega) (by omega) ?_
              rw [hQ, refI_3 (m := 1) q2 q4 hn0 q3 hjz, if_pos (by decide), nI_clamp hj]
              refine SPQ.upd1 (ln := 0) sh dd ht (by omega) q2 q3 q4 q5 q6 q7 (fun k hk => ?_) (fun q hq => pk_un (by omega))
              by_cases e : k = j
              · rw [e, pk_us, pk_us, nar_b]; rfl
              · rw [pk_un e, pk_un (by omega)]; exact q9 k hk
          | 1, _ =>
            exact ew_castX (K := 4) (K2 := 1) (na := "[S") (nb := "[B") (ta := .short) (tb := .byte) q8 rfl rfl (fun _ h => saN h) (fun _ h => baN h) (by decide) (by decide) q993 (by decide) dX0_item_53 (Nat.le_of_ble_eq_true rfl) (HC 53 (by omega) (by omega) (refI_1 hn0 (by rw [q3]; decide)))
          | 2, _ =>
            exact ew_castX (K := 0) (K2 := 1) (na := "[I") (nb := "[B") (ta := .int) (tb := .byte) q8 rfl rfl (fun _ h => iaN h) (fun _ h => baN h) (by decide) (by decide) q993 (by decide) dX0_item_53 (Nat.le_of_ble_eq_true rfl) (HC 53 (by omega) (by omega) (refI_1 hn0 (by rw [q3]; decide)))
      | 1, _ =>
        refine ew_lookup (t := 64) (off := 47) dX0_item_17 (by decide) (by decide) (by decide) ?_
        refine ew_aload_n (t := 65) dX0_item_64 rfl rfl rfl ?_
        refine ew_get (t := 68) (j := 20) (v := .ref 28) fcX0 x1 (Nat.le_of_ble_eq_true rfl) q282 rfl dX0_item_65 rfl ?_
        refine ew_iload_n (t := 69) dX0_item_68 rfl rfl rfl ?_
        refine ew_aald6 (t := 70) (j := t) sh.1 (vp_in_nI ht (by omega)) (nI_clamp (by omega)) dX0_item_69 rfl ?_
        rw [show va_rf (shT t) = .ref (29 + t) from rfl]
        rcases sh.2 t ht with ⟨q1, q2⟩ | ⟨l2, z, f, q1, q2, q3, q4, q5, q6, q7, q8, q9⟩
        · refine ew_getN (t := 73) (j := 0) (v := .null) fcX3 q2 (Nat.le_of_ble_eq_true rfl) q248 rfl dX0_item_70 rfl ?_
          refine ew_castN (t := 76) dX0_item_73 rfl ?_
          refine ew_iload_n (t := 77) dX0_item_76 rfl rfl rfl ?_
          refine ew_iload (t := 79) dX0_item_77 rfl rfl ?_
          refine ew_i2s (t := 80) dX0_item_79 rfl ?_
          exact ew_sastN dX0_item_80 (Nat.le_of_ble_eq_true rfl) (HN 80 (by omega) (by omega) (refI_0 q1))
        · refine ew_getN (t := 73) (j := 0) (v := .ref (rr t)) fcX3 q7 (Nat.le_of_ble_eq_true rfl) q248 rfl dX0_item_70 rfl ?_
          have hn0 : 0 ≤ F 59 t := by rw [q3]; exact nI_nn (by omega)
          match l2, q1 with
          | 0, _ =>
            exact ew_castX (K := 1) (K2 := 4) (na := "[B") (nb := "[S") (ta := .byte) (tb := .short) q8 rfl rfl (fun _ h => baN h) (fun _ h => saN h) (by decide) (by decide) q994 (by decide) dX0_item_73 (Nat.le_of_ble_eq_true rfl) (HC 73 (by omega) (by omega) (refI_1 hn0 (by rw [q3]; decide)))
          | 1, _ =>
            refine ew_castA (t := 76) (ty := .short) q8 rfl saN q994 dX0_item_73 rfl ?_
            refine ew_iload_n (t := 77) dX0_item_76 rfl rfl rfl ?_
            refine ew_iload (t := 79) dX0_item_77 rfl rfl ?_
            refine ew_i2s (t := 80) dX0_item_79 rfl ?_
            by_cases ho : i < 0 ∨ z ≤ i.toNatClampNeg
            · exact ew_sastO q8 ho dX0_item_80 (Nat.le_of_ble_eq_true rfl) (HO 80 (by omega) (by omega) (refI_2 (m := 1) (by omega) q2 q4 hn0 q3 (fun k hk hle => by
                subst hk
                rcases ho with g | g
                · exact absurd g (Int32.not_lt.mpr (nI_nn (by omega)))
                · rw [nI_clamp (by omega)] at g
                  omega)) z q2)
            · have hi0 : ¬ i < 0 := fun g => ho (Or.inl g)
              obtain ⟨j, hj, rfl⟩ := nI_of hi0
              have hjz : j < z := by
                refine Nat.lt_of_not_le (fun g => ho (Or.inr ?_))
                rw [nI_clamp hj]
                exact g
              refine ew_sast (t := 81) (j := j) (N := z) (h' := (hov h [(rr t, SA z (upd f j (vp_nar .short v.toInt16.toInt32)))])) q8 ho (nI_clamp hj) dX0_item_80 hov_up0 rfl ?_
              refine ew_goto (t := 100) dX0_item_81 rfl ?_
              refine ew_goto (t := 118) dX0_item_100 rfl ?_
              refine ew_ic1 (t := 119) dX0_item_118 rfl ?_
              refine ew_iret rfl dX0_item_119 (by omega) (by omega) ?_
              rw [hQ, refI_3 (m := 1) q2 q4 hn0 q3 hjz, if_pos (by decide), nI_clamp hj]
              refine SPQ.upd1 (ln := 1) sh dd ht (by omega) q2 q3 q4 q5 q6 q7 (fun k hk => ?_) (fun q hq => pk_un (by omega))
              by_cases e : k = j
              · rw [e, pk_us, pk_us, nar_h]; rfl
              · rw [pk_un e, pk_un (by omega)]; exact q9 k hk
          | 2, _ =>
            exact ew_castX (K := 0) (K2 := 4) (na := "[I") (nb := "[S") (ta := .int) (tb := .short) q8 rfl rfl (fun _ h => iaN h) (fun _ h => saN h) (by decide) (by decide) q994 (by decide) dX0_item_73 (Nat.le_of_ble_eq_true rfl) (HC 73 (by omega) (by omega) (refI_1 hn0 (by rw [q3]; decide)))
      | 2, _ =>
        refine ew_lookup (t := 84) (off := 67) dX0_item_17 (by decide) (by decide) (by decide) ?_
        refine ew_aload_n (t := 85) dX0_item_84 rfl rfl rfl ?_
        refine ew_get (t := 88) (j := 20) (v := .ref 28) fcX0 x1 (Nat.le_of_ble_eq_true rfl) q282 rfl dX0_item_85 rfl ?_
        refine ew_iload_n (t := 89) dX0_item_88 rfl rfl rfl ?_
        refine ew_aald6 (t := 90) (j := t) sh.1 (vp_in_nI ht (by omega)) (nI_clamp (by omega)) dX0_item_89 rfl ?_
        rw [show va_rf (shT t) = .ref (29 + t) from rfl]
        rcases sh.2 t ht with ⟨q1, q2⟩ | ⟨l2, z, f, q1, q2, q3, q4, q5, q6, q7, q8, q9⟩
        · refine ew_getN (t := 93) (j := 0) (v := .null) fcX3 q2 (Nat.le_of_ble_eq_true rfl) q248 rfl dX0_item_90 rfl ?_
          refine ew_castN (t := 96) dX0_item_93 rfl ?_
          refine ew_iload_n (t := 97) dX0_item_96 rfl rfl rfl ?_
          refine ew_iload (t := 99) dX0_item_97 rfl rfl ?_
          exact ew_iastN dX0_item_99 (Nat.le_of_ble_eq_true rfl) (HN 99 (by omega) (by omega) (refI_0 q1))
        · refine ew_getN (t := 93) (j := 0) (v := .ref (rr t)) fcX3 q7 (Nat.le_of_ble_eq_true rfl) q248 rfl dX0_item_90 rfl ?_
          have hn0 : 0 ≤ F 59 t := by rw [q3]; exact nI_nn (by omega)
          match l2, q1 with
          | 0, _ =>
            exact ew_castX (K := 1) (K2 := 0) (na := "[B") (nb := "[I") (ta := .byte) (tb := .int) q8 rfl rfl (fun _ h => baN h) (fun _ h => iaN h) (by decide) (by decide) q995 (by decide) dX0_item_93 (Nat.le_of_ble_eq_true rfl) (HC 93 (by omega) (by omega) (refI_1 hn0 (by rw [q3]; decide)))
          | 1, _ =>
            exact ew_castX (K := 4) (K2 := 0) (na := "[S") (nb := "[I") (ta := .short) (tb := .int) q8 rfl rfl (fun _ h => saN h) (fun _ h => iaN h) (by decide) (by decide) q995 (by decide) dX0_item_93 (Nat.le_of_ble_eq_true rfl) (HC 93 (by omega) (by omega) (refI_1 hn0 (by rw [q3]; decide)))
          | 2, _ =>
            refine ew_castA (t := 96) (ty := .int) q8 rfl iaN q995 dX0_item_93 rfl ?_
            refine ew_iload_n (t := 97) dX0_item_96 rfl rfl rfl ?_
            refine ew_iload (t := 99) dX0_item_97 rfl rfl ?_
            by_cases ho : i < 0 ∨ z ≤ i.toNatClampNeg
            · exact ew_iastO q8 ho dX0_item_99 (Nat.le_of_ble_eq_true rfl) (HO 99 (by omega) (by omega) (refI_2 (m := 1) (by omega) q2 q4 hn0 q3 (fun k hk hle => by
                subst hk
                rcases ho with g | g
                · exact absurd g (Int32.not_lt.mpr (nI_nn (by omega)))
                · rw [nI_clamp (by omega)] at g
                  omega)) z q2)
            · have hi0 : ¬ i < 0 := fun g => ho (Or.inl g)
              obtain ⟨j, hj, rfl⟩ := nI_of hi0
              have hjz : j < z := by
                refine Nat.lt_of_not_le (fun g => ho (Or.inr ?_))
                rw [nI_clamp hj]
                exact g
              refine ew_iast (t := 100) (j := j) (N := z) (h' := (hov h [(rr t, IA z (upd f j v))])) q8 ho (nI_clamp hj) dX0_item_99 hov_up0 rfl ?_
              refine ew_goto (t := 118) dX0_item_100 rfl ?_
              refine ew_ic1 (t := 119) dX0_item_118 rfl ?_
              refine ew_iret rfl dX0_item_119 (by omega) (by omega) ?_
              rw [hQ, refI_3 (m := 1) q2 q4 hn0 q3 hjz, if_pos (by decide), nI_clamp hj]
              refine SPQ.upd1 (ln := 2) sh dd ht (by omega) q2 q3 q4 q5 q6 q7 (fun k hk => ?_) (fun q hq => pk_un (by omega))
              by_cases e : k = j
              · rw [e, pk_us, pk_us]; rfl
              · rw [pk_un e, pk_un (by omega)]; exact q9 k hk
    · refine ew_icm1 (t := 15) dX0_item_14 rfl ?_
      exact ew_iret rfl dX0_item_15 (by omega) (by omega) (by unfold itmP; rw [if_neg c_4, if_neg (not_not_intro c_11)]; exact SPQ.same (d := 0) h63 sh dd)
