-- Obj fields dict_keys(['cls', 'fun', 'sname', 'refs', 'extra', 'ups'])
/-! the component: sheet -/
set_option maxRecDepth 100000
/-- an answer, and the sheets now (rows may be new; cells behind n may hold anything) -/
def SPQ (h : AH) (n : Nat) (rr : Nat → Nat) (p : OR) : Option Value → AH → Nat → Prop := fun r h' n' => r = some (.int p.1) ∧ n ≤ n' ∧ ∃ rr' : Nat → Nat, SHx p.2.2 h' n' rr' ∧ rrD p.2.2 rr' ∧ (∀ t, t < 4 → rr' t = rr t ∨ (n ≤ rr' t ∧ rr' t < n')) ∧ ∀ k, k < n → ¬ (29 ≤ k ∧ k ≤ 32) → ¬ (63 ≤ k ∧ ∃ t, t < 4 ∧ k = rr t) → h' k = h k
theorem SPQ.same {h : AH} {n d : Nat} {rr : Nat → Nat} {v : Int32} {sm : Nat → Int32} {F : Nat → Nat → Int32} (h63 : 63 ≤ n) (sh : SHx F h n rr) (dd : rrD F rr) : SPQ h n rr (v, sm, F) (some (.int v)) h (n + d) :=
  ⟨rfl, by omega, rr, sh.mono h63 (by omega) (fun _ _ _ => rfl), dd, fun _ _ => Or.inl rfl, fun _ _ _ _ => rfl⟩
theorem zrI_z {f : Nat → Int32} {t : Nat} : ∀ (k j : Nat), j < k → zrI f t k (16 * t + j) = 0
  | 0, j, h => by omega
  | k + 1, j, h => by
    show upd (zrI f t k) (16 * t + k) 0 (16 * t + j) = 0
    by_cases e : j = k
    · rw [e, pk_us]
    · rw [pk_un (by omega)]
      exact zrI_z k j (by omega)
theorem zrI_ne {f : Nat → Int32} {t : Nat} : ∀ (k q : Nat), ¬ (16 * t ≤ q ∧ q < 16 * t + k) → zrI f t k q = f q
  | 0, q, h => rfl
  | k + 1, q, h => by
    show upd (zrI f t k) (16 * t + k) 0 q = f q
    rw [pk_un (by omega)]
    exact zrI_ne k q (by omega)
theorem SHt.new {F : Nat → Nat → Int32} {h : AH} {n t t2 ln z : Nat} {rr : Nat → Nat} (ht : t < 4) (ht2 : t2 < 4) (h63 : 63 ≤ n) (hl : ln < 3) (hz : z ≤ 16) (s : SHt F h n t2 (rr t2)) : SHt (va_up (va_up (va_up F 60 (upd (F 60) t (nI z))) 59 (upd (F 59) t (nI ln))) 61 (zrI (F 61) t 16)) (hov h [(n, rwA ln z (fun _ => 0)), (29 + t, OB 3 [.ref n])]) (n + 1) t2 (va_up rr t n t2) := by
  by_cases e : t2 = t
  · subst e
    refine Or.inr ⟨ln, z, fun _ => 0, hl, hz, ?_, ?_, ?_, ?_, ?_, ?_, fun j hj => ?_⟩
    · show upd (F 59) t2 (nI ln) t2 = _
      rw [pk_us]
    · show upd (F 60) t2 (nI z) t2 = _
      rw [pk_us]
    · rw [va_up_self]; exact h63
    · rw [va_up_self]; omega
    · rw [va_up_self, hv_miss (by omega)]; exact hv_hit
    · rw [va_up_self]; exact hv_hit
    · exact (zrI_z 16 j (by omega)).symm
  · have e59 : upd (F 59) t (nI ln) t2 = F 59 t2 := pk_un e
    have e60 : upd (F 60) t (nI z) t2 = F 60 t2 := pk_un e
    have er : va_up rr t n t2 = rr t2 := va_up_ne _ _ e
    rw [er]
    rcases s with ⟨q1, q2⟩ | ⟨ln2, z2, f2, q1, q2, q3, q4, q5, q6, q7, q8, q9⟩
    · exact Or.inl ⟨by show upd (F 59) t (nI ln) t2 < 0; rw [e59]; exact q1, (hv_miss (by omega)).trans ((hv_miss (by omega)).trans q2)⟩
    · refine Or.inr ⟨ln2, z2, f2, q1, q2, e59.trans q3, e60.trans q4, q5, by omega, (hv_miss (by omega)).trans ((hv_miss (by omega)).trans q7), (hv_miss (by omega)).trans ((hv_miss (by omega)).trans q8), fun j hj => ?_⟩
      rw [q9 j hj]
      exact (zrI_ne 16 _ (by omega)).symm
theorem SPQ.new {h : AH} {n t ln z : Nat} {rr : Nat → Nat} {sm : Nat → Int32} {F : Nat → Nat → Int32} (h63 : 63 ≤ n) (sh : SHx F h n rr) (dd : rrD F rr) (ht : t < 4) (hl : ln < 3) (hz : z ≤ 16) : SPQ h n rr (nI z, sm, va_up (va_up (va_up F 60 (upd (F 60) t (nI z))) 59 (upd (F 59) t (nI ln))) 61 (zrI (F 61) t 16)) (some (.int (nI z))) (hov h [(n, rwA ln z (fun _ => 0)), (29 + t, OB 3 [.ref n])]) (n + 1) := by
  refine ⟨rfl, by omega, va_up rr t n, ⟨(hv_miss (by omega)).trans ((hv_miss (by omega)).trans sh.1), fun t2 ht2 => (sh.2 t2 ht2).new ht ht2 h63 hl hz⟩, fun a b ha hb h1 h2 he => ?_, fun t2 ht2 => ?_, fun k k1 k2 k3 => (hv_miss (by omega)).trans (hv_miss (by omega))⟩
  · have lt : ∀ x, x < 4 → ¬ x = t → 0 ≤ upd (F 59) t (nI ln) x → rr x < n := by
      intro x hx hn hp
      rw [pk_un hn] at hp
      rcases sh.2 x hx with ⟨q1, -⟩ | ⟨ln2, z2, f2, -, -, -, -, -, q6, -⟩
      · exact absurd hp (Int32.not_le.mpr q1)
      · exact q6
    by_cases ea : a = t
    · by_cases eb : b = t
      · rw [ea, eb]
      · rw [ea, va_up_self, va_up_ne _ _ eb] at he
        have := lt b hb eb h2
        omega
    · by_cases eb : b = t
      · rw [eb, va_up_self, va_up_ne _ _ ea] at he
        have := lt a ha ea h1
        omega
      · rw [va_up_ne _ _ ea, va_up_ne _ _ eb] at he
        have h1' : 0 ≤ upd (F 59) t (nI ln) a := h1
        have h2' : 0 ≤ upd (F 59) t (nI ln) b := h2
        rw [pk_un ea] at h1'
        rw [pk_un eb] at h2'
        exact dd a b ha hb h1' h2' he
  · by_cases e : t2 = t
    · rw [e, va_up_self]; exact Or.inr ⟨by omega, by omega⟩
    · rw [va_up_ne _ _ e]; exact Or.inl rfl
theorem ht_sheet {pc : Nat} (h1 : 22 ≤ pc) (h2 : pc < 55) : HT yX0_sheet pc "java/lang/NegativeArraySizeException" 58 := ⟨[], [], 22, 55, 365, _, by decide +kernel, h1, h2, by decide, q897, Or.inl rfl, fun z hz => by cases hz⟩
theorem hov_hov2 {h : AH} {a b : Nat} {c d : AC} (e : ¬ b = a) : va_up (hov h [(a, c)]) b (some d) = hov h [(a, c), (b, d)] := hov_up (by unfold aset; rw [beq_ff e]; rfl)
set_option maxHeartbeats 600000 in
theorem xc_sheet {l : Launch} {G : GW} {h : AH} {n : Nat} (hfl : noTr l) {s sm : Nat → Int32} {F : Nat → Nat → Int32} {rr : Nat → Nat} (x1 : h 1 = some (XO s)) (sh : SHx F h n rr) (dd : rrD F rr) (h63 : 63 ≤ n) (c lane nn : Int32) : AMW l G yX0_sheet cX0_sheet 5 (some .int) 300 3 4010 [.ref 1, .int c, .int lane, .int nn] h n (SPQ h n rr (shtP sm F c lane nn)) := by
  refine AMW.of (L := [some (.ref 1), some (.int c), some (.int lane), some (.int nn), none]) (by decide) (Nat.le_of_ble_eq_true rfl) rfl ?_
  refine ew_iload_n (t := 1) dX0_sheet_0 rfl rfl rfl ?_
  refine ew_callS (t := 4) (As := [_]) (ax_isSheet  _) (lw_S q802 q803 q51 q804) naX0_isSheet dX0_sheet_1 rfl (Nat.le_of_ble_eq_true rfl) (Nat.le_of_ble_eq_true rfl) (by omega) (by omega) (Nat.le_of_ble_eq_true rfl) rfl (qi ?_)
  refine ew_if_eq (t := 20) (t2 := 7) dX0_sheet_4 rfl rfl (fun c_4 => ?_) (fun c_4 => ?_)
  · refine ew_icm1 (t := 21) dX0_sheet_20 rfl ?_
    exact ew_iret rfl dX0_sheet_21 (by omega) (by omega) (by unfold shtP; rw [if_pos c_4]; exact SPQ.same (d := 0) h63 sh dd)
  · refine ew_iload_n (t := 8) dX0_sheet_7 rfl rfl rfl ?_
    refine ew_callS (t := 11) (As := [_]) (ax_isLane  _) (lw_S q805 q806 q51 q807) naX0_isLane dX0_sheet_8 rfl (Nat.le_of_ble_eq_true rfl) (Nat.le_of_ble_eq_true rfl) (by omega) (by omega) (Nat.le_of_ble_eq_true rfl) rfl (qi ?_)
    refine ew_if_eq (t := 20) (t2 := 14) dX0_sheet_11 rfl rfl (fun c_11 => ?_) (fun c_11 => ?_)
    · refine ew_icm1 (t := 21) dX0_sheet_20 rfl ?_
      exact ew_iret rfl dX0_sheet_21 (by omega) (by omega) (by unfold shtP; rw [if_neg c_4, if_pos c_11]; exact SPQ.same (d := 0) h63 sh dd)
    · refine ew_iload_n (t := 15) dX0_sheet_14 rfl rfl rfl ?_
      refine ew_bipush (t := 17) (v := 16) dX0_sheet_15 (by decide) rfl ?_
      refine ew_icmp_le (t := 22) (t2 := 20) dX0_sheet_17 rfl rfl (fun c_17 => ?_) (fun c_17 => ?_)
      · obtain ⟨t, -, ht, rfl⟩ := inI_nat (c := c) (lo := 0) (hi := 3) (by omega) (by omega) (b2i_1.mp c_4)
        replace ht : t < 4 := by omega
        obtain ⟨ln, -, hln, rfl⟩ := inI_nat (c := lane) (lo := 0) (hi := 2) (by omega) (by omega) (b2i_1.mp c_11)
        have hQ : shtP sm F (nI t) (nI ln) nn = if 0 ≤ nn then (nn, sm, va_up (va_up (va_up F 60 (upd (F 60) t nn)) 59 (upd (F 59) t (nI ln))) 61 (zrI (F 61) t 16)) else (-14, sm, F) := by
          unfold shtP
          rw [if_neg c_4, if_neg c_11, if_pos c_17, nI_clamp (n := t) (by omega)]
        have HN : ∀ pc, 22 ≤ pc → pc < 55 → nn < 0 → EN l G yX0_sheet cX0_sheet 5 (some .int) 300 3 4010 (SPQ h n rr (shtP sm F (nI t) (nI ln) nn)) 0 0 h n pc [some (.ref 1), some (.int (nI t)), some (.int (nI ln)), some (.int nn), none] "java/lang/NegativeArraySizeException" (some (toString nn)) := by
          intro pc h1 h2 hneg
          refine en_msg hfl (by omega) (by omega) (by omega) (names := ["java/lang/RuntimeException", "java/lang/Exception"]) (by decide) (by decide) (by decide) (by decide) (by decide) (fun C => at_nas C) (negative_text_modelled hneg) (Nat.le_trans (negative_text_bytes nn) (by omega)) (ht_sheet h1 h2) ?_
          refine ew_astore (t := 60) (L' := [some (.ref 1), some (.int (nI t)), some (.int (nI ln)), some (.int nn), some (.ref (n + 2))]) dX0_sheet_58 (Nat.le_of_ble_eq_true rfl) rfl rfl ?_
          refine ew_bipush (t := 62) (v := (-14)) dX0_sheet_60 (by decide) rfl ?_
          exact ew_iret rfl dX0_sheet_62 (Nat.le_refl _) (Nat.le_refl _) (by rw [hQ, if_neg (Int32.not_le.mpr hneg)]; exact SPQ.same h63 sh dd)
        have HG : ∀ z, z ≤ 16 → nn = nI z → EW l G yX0_sheet cX0_sheet 5 (some .int) 300 3 4010 (SPQ h n rr (shtP sm F (nI t) (nI ln) nn)) 1 (0 + z) (hov h [(n, rwA ln z (fun _ => 0))]) (n + 1) 52 [some (.ref 1), some (.int (nI t)), some (.int (nI ln)), some (.int nn), none] [.ref n, .ref (29 + t)] := by
          intro z hz ez
          have hb : ∃ fs, h (29 + t) = some (OB 3 [fs]) := by
            rcases sh.2 t ht with ⟨-, q⟩ | ⟨_, _, _, -, -, -, -, -, -, q, -⟩
            · exact ⟨_, q⟩
            · exact ⟨_, q⟩
          obtain ⟨fs, q7⟩ := hb
          refine ew_putN (t := 55) (j := 0) (fs' := [.ref n]) (h' := (hov h [(n, rwA ln z (fun _ => 0)), ((29 + t), OB 3 [.ref n])])) fcX3 ((hv_miss (by omega)).trans q7) (Nat.le_of_ble_eq_true rfl) rfl q248 rfl rfl (Nat.le_of_ble_eq_true rfl) rfl dX0_sheet_52 (hov_hov2 (a := n) (b := 29 + t) (by omega)) rfl ?_
          refine ew_goto (t := 63) dX0_sheet_55 rfl ?_
          refine ew_iload_n (t := 64) dX0_sheet_63 rfl rfl rfl ?_
          exact ew_iret rfl dX0_sheet_64 (by omega) (by omega) (by rw [hQ, ez, if_pos (nI_nn (by omega))]; exact SPQ.new h63 sh dd ht (by omega) hz)
        refine ew_aload_n (t := 23) dX0_sheet_22 rfl rfl rfl ?_
        refine ew_get (t := 26) (j := 20) (v := .ref 28) fcX0 x1 (Nat.le_of_ble_eq_true rfl) q282 rfl dX0_sheet_23 rfl ?_
        refine ew_iload_n (t := 27) dX0_sheet_26 rfl rfl rfl ?_
        refine ew_aald6 (t := 28) (j := t) sh.1 (vp_in_nI ht (by omega)) (nI_clamp (by omega)) dX0_sheet_27 rfl ?_
        rw [show va_rf (shT t) = .ref (29 + t) from rfl]
        refine ew_iload_n (t := 29) dX0_sheet_28 rfl rfl rfl ?_
        refine ew_if_ne (t := 38) (t2 := 32) dX0_sheet_29 rfl rfl (fun c_29 => ?_) (fun c_29 => ?_)
        · refine ew_iload_n (t := 39) dX0_sheet_38 rfl rfl rfl ?_
          refine ew_ic1 (t := 40) dX0_sheet_39 rfl ?_
          refine ew_icmp_ne (t := 49) (t2 := 43) dX0_sheet_40 rfl rfl (fun c_40 => ?_) (fun c_40 => ?_)
          · have c0 : ¬ ln = 0 := fun q => c_29 (by rw [q]; rfl)
            have c1 : ¬ ln = 1 := fun q => c_40 (by rw [q]; rfl)
            refine ew_iload_n (t := 50) dX0_sheet_49 rfl rfl rfl ?_
            by_cases hneg : nn < 0
            · exact ew_newneg dX0_sheet_50 hneg (Nat.le_of_ble_eq_true rfl) (HN 50 (by omega) (by omega) hneg)
            · obtain ⟨z, hz, ez⟩ := nI_of2 (M := 16) (n := 16) rfl hneg c_17
              have hln0 : ln = 2 := by omega
              refine ew_newI (t := 52) (N := z) (h' := hov h [(n, rwA ln z (fun _ => 0))]) dX0_sheet_50 q123 hneg (by rw [ez]; exact nI_clamp (by omega)) (by omega) (by omega) (by omega) (by rw [hln0]; exact hov_up0) rfl ?_
              exact HG z hz ez
          · have c1 : ln = 1 := nI_inj (q := 1) (by omega) (by omega) c_40
            refine ew_iload_n (t := 44) dX0_sheet_43 rfl rfl rfl ?_
            by_cases hneg : nn < 0
            · exact ew_newneg dX0_sheet_44 hneg (Nat.le_of_ble_eq_true rfl) (HN 44 (by omega) (by omega) hneg)
            · obtain ⟨z, hz, ez⟩ := nI_of2 (M := 16) (n := 16) rfl hneg c_17
              have hln0 : ln = 1 := by omega
              refine ew_newS (t := 46) (N := z) (h' := hov h [(n, rwA ln z (fun _ => 0))]) dX0_sheet_44 q926 hneg (by rw [ez]; exact nI_clamp (by omega)) (by omega) (by omega) (by omega) (by rw [hln0]; exact hov_up0) rfl ?_
              refine ew_goto (t := 52) dX0_sheet_46 rfl ?_
              exact HG z hz ez
        · have c1 : ln = 0 := nI_inj (q := 0) (by omega) (by omega) c_29
          refine ew_iload_n (t := 33) dX0_sheet_32 rfl rfl rfl ?_
          by_cases hneg : nn < 0
          · exact ew_newneg dX0_sheet_33 hneg (Nat.le_of_ble_eq_true rfl) (HN 33 (by omega) (by omega) hneg)
          · obtain ⟨z, hz, ez⟩ := nI_of2 (M := 16) (n := 16) rfl hneg c_17
            have hln0 : ln = 0 := by omega
            refine ew_newB (t := 35) (N := z) (h' := hov h [(n, rwA ln z (fun _ => 0))]) dX0_sheet_33 q124 hneg (by rw [ez]; exact nI_clamp (by omega)) (by omega) (by omega) (by omega) (by rw [hln0]; exact hov_up0) rfl ?_
            refine ew_goto (t := 52) dX0_sheet_35 rfl ?_
            exact HG z hz ez
      · refine ew_icm1 (t := 21) dX0_sheet_20 rfl ?_
        exact ew_iret rfl dX0_sheet_21 (by omega) (by omega) (by unfold shtP; rw [if_neg c_4, if_neg c_11, if_neg c_17]; exact SPQ.same (d := 0) h63 sh dd)
