/-! sheet, item, copy, drop, film as pairs of calls (printed by gen/wo5.py) -/
set_option maxRecDepth 100000
theorem VV.s {sx sx' s : Nat → Int32} {F F' Fk : Nat → Nat → Int32} {np nd npk ndk tp : Nat} (v : VV sx s F Fk np nd npk ndk tp) (vs : VS F') (e : ∀ k, ¬ (59 ≤ k ∧ k ≤ 61) → F' k = F k) (kp : kpS sx sx') : VV sx' s F' Fk np nd npk ndk tp := by
  obtain ⟨v1, v2, v3, v4, v5, v6, v7, v8, v9, v10, v11⟩ := v
  exact ⟨v1.cg (fun k hk => e k (by omega)), v2, vs, by rw [e 40 (by omega)]; exact v4, v5, v6, kp.1.trans v7, v8, v9, kp.2.trans v10, fun hk => (v11 hk).cg (e 58 (by omega))⟩
theorem fit_b (v : Int32) : fits .byte (.int v.toInt8.toInt32) = true := by
  show (decide (-128 ≤ v.toInt8.toInt32) && decide (v.toInt8.toInt32 ≤ 127)) = true
  have e := Int8.toInt_toInt32 v.toInt8
  have h1 := Int8.le_toInt v.toInt8
  have h2 := Int8.toInt_lt v.toInt8
  rw [Bool.and_eq_true, decide_eq_true_eq, decide_eq_true_eq, Int32.le_iff_toInt_le, Int32.le_iff_toInt_le, e]
  have e1 : (-128 : Int32).toInt = -128 := by decide
  have e2 : (127 : Int32).toInt = 127 := by decide
  omega
theorem fit_h (v : Int32) : fits .short (.int v.toInt16.toInt32) = true := by
  show (decide (-32768 ≤ v.toInt16.toInt32) && decide (v.toInt16.toInt32 ≤ 32767)) = true
  have e := Int16.toInt_toInt32 v.toInt16
  have h1 := Int16.le_toInt v.toInt16
  have h2 := Int16.toInt_lt v.toInt16
  rw [Bool.and_eq_true, decide_eq_true_eq, decide_eq_true_eq, Int32.le_iff_toInt_le, Int32.le_iff_toInt_le, e]
  have e1 : (-32768 : Int32).toInt = -32768 := by decide
  have e2 : (32767 : Int32).toInt = 32767 := by decide
  omega
theorem fit_n {ln : Nat} (hl : ln < 3) (v : Int32) : fits (lnT ln) (.int (nrI (nI ln) v)) = true := by
  rcases (show ln = 0 ∨ ln = 1 ∨ ln = 2 by omega) with rfl | rfl | rfl
  · exact fit_b v
  · exact fit_h v
  · rfl
theorem fit_0 {ln : Nat} (hl : ln < 3) : fits (lnT ln) (.int 0) = true := by
  rcases (show ln = 0 ∨ ln = 1 ∨ ln = 2 by omega) with rfl | rfl | rfl <;> decide
theorem fit_c {ln : Nat} (hl : ln < 3) {j : Nat} (hj : j < 100) : fits (lnT ln) (.int (nI j)) = true := by
  have h0 : ∀ j, j < 100 → fits .byte (.int (nI j)) = true ∧ fits .short (.int (nI j)) = true := by decide
  rcases (show ln = 0 ∨ ln = 1 ∨ ln = 2 by omega) with rfl | rfl | rfl
  · exact (h0 j hj).1
  · exact (h0 j hj).2
  · rfl
theorem sht_ok {s : Nat → Int32} {F : Nat → Nat → Int32} (vs : VS F) (c lane nn : Int32) : (shtP s F c lane nn).2.1 = s ∧ VS (shtP s F c lane nn).2.2 ∧ ∀ k, ¬ (59 ≤ k ∧ k ≤ 61) → (shtP s F c lane nn).2.2 k = F k := by
  unfold shtP
  by_cases c1 : b2i (inI c 0 3) = 0
  · rw [if_pos c1]; exact ⟨rfl, vs, fun _ _ => rfl⟩
  rw [if_neg c1]
  by_cases c2 : b2i (inI lane 0 2) = 0
  · rw [if_pos c2]; exact ⟨rfl, vs, fun _ _ => rfl⟩
  rw [if_neg c2]
  by_cases c3 : nn ≤ 16
  · rw [if_pos c3]
    by_cases c4 : 0 ≤ nn
    · rw [if_pos c4]
      obtain ⟨t, -, ht, rfl⟩ := inI_nat (c := c) (lo := 0) (hi := 3) (by omega) (by omega) (b2i_1.mp c1)
      obtain ⟨ln, -, hl, rfl⟩ := inI_nat (c := lane) (lo := 0) (hi := 2) (by omega) (by omega) (b2i_1.mp c2)
      obtain ⟨z, hz, rfl⟩ := nI_of2 (M := 16) (n := 16) rfl (Int32.not_lt.mpr c4) c3
      rw [nI_clamp (n := t) (by omega)]
      refine ⟨rfl, ⟨upd_all (P := fun x => ∃ z, z ≤ 16 ∧ x = nI z) vs.1 ⟨z, hz, rfl⟩, fun t2 ht2 l2 hl2 e j hj => ?_⟩, fun k hk => (va_up_ne _ _ (by omega)).trans ((va_up_ne _ _ (by omega)).trans (va_up_ne _ _ (by omega)))⟩
      show fits (lnT l2) (.int (zrI (F 61) t 16 (16 * t2 + j))) = true
      replace e : upd (F 59) t (nI ln) t2 = nI l2 := e
      by_cases q : t2 = t
      · rw [q, zrI_z 16 j hj]; exact fit_0 hl2
      · rw [zrI_ne 16 _ (by omega)]
        rw [pk_un q] at e
        exact vs.2 t2 ht2 l2 hl2 e j hj
    · rw [if_neg c4]; exact ⟨rfl, vs, fun _ _ => rfl⟩
  · rw [if_neg c3]; exact ⟨rfl, vs, fun _ _ => rfl⟩
theorem itm_ok {s : Nat → Int32} {F : Nat → Nat → Int32} (vs : VS F) (c lane i v : Int32) : (itmP s F c lane i v).2.1 = s ∧ VS (itmP s F c lane i v).2.2 ∧ ∀ k, ¬ (59 ≤ k ∧ k ≤ 61) → (itmP s F c lane i v).2.2 k = F k := by
  unfold itmP
  by_cases c1 : b2i (inI c 0 3) = 0
  · rw [if_pos c1]; exact ⟨rfl, vs, fun _ _ => rfl⟩
  rw [if_neg c1]
  by_cases c2 : ¬ b2i (inI lane 0 2) = 0
  · rw [if_pos c2]
    by_cases c3 : 0 ≤ refI (F 59) (F 60) c.toNatClampNeg lane i 1
    · rw [if_pos c3]
      obtain ⟨t, -, ht, rfl⟩ := inI_nat (c := c) (lo := 0) (hi := 3) (by omega) (by omega) (b2i_1.mp c1)
      obtain ⟨ln, -, hl, rfl⟩ := inI_nat (c := lane) (lo := 0) (hi := 2) (by omega) (by omega) (b2i_1.mp c2)
      rw [nI_clamp (n := t) (by omega)] at c3 ⊢
      obtain ⟨z, hz, ez⟩ := vs.1 t (by omega)
      obtain ⟨el, k, rfl, hk⟩ := refI_ok (m := 1) (by omega) hz ez c3
      rw [nI_clamp (n := k) (by omega)]
      refine ⟨rfl, ⟨vs.1, fun t2 ht2 l2 hl2 e j hj => ?_⟩, fun k hk => va_up_ne _ _ (by omega)⟩
      show fits (lnT l2) (.int (upd (F 61) (16 * t + k) (nrI (nI ln) v) (16 * t2 + j))) = true
      replace e : F 59 t2 = nI l2 := e
      by_cases q : 16 * t2 + j = 16 * t + k
      · have : t2 = t := by omega
        subst this
        have : l2 = ln := nI_inj (by omega) (by omega) (e.symm.trans el)
        subst this
        rw [q, pk_us]; exact fit_n hl2 v
      · rw [pk_un q]; exact vs.2 t2 ht2 l2 hl2 e j hj
    · rw [if_neg c3]; exact ⟨rfl, vs, fun _ _ => rfl⟩
  · rw [if_neg c2]; exact ⟨rfl, vs, fun _ _ => rfl⟩
theorem drp_ok {s : Nat → Int32} {F : Nat → Nat → Int32} {rr : Nat → Nat} (vs : VS F) (dd : rrD F rr) (c : Int32) : (drpP s F c).2.1 = s ∧ VS (drpP s F c).2.2 ∧ (∀ k, ¬ k = 59 → (drpP s F c).2.2 k = F k) ∧ rrD (drpP s F c).2.2 rr := by
  unfold drpP
  by_cases c1 : ¬ b2i (inI c 0 3) = 0
  · rw [if_pos c1]
    by_cases c2 : 0 ≤ F 59 c.toNatClampNeg
    · rw [if_pos c2]
      have hm : ∀ t, 0 ≤ upd (F 59) c.toNatClampNeg (-1) t → 0 ≤ F 59 t := by
        intro t h
        by_cases q : t = c.toNatClampNeg
        · rw [q, pk_us] at h; exact absurd h (by decide)
        · rw [pk_un q] at h; exact h
      refine ⟨rfl, ⟨vs.1, fun t2 ht2 l2 hl2 e j hj => ?_⟩, fun k hk => va_up_ne _ _ hk, fun a b ha hb h1 h2 he => dd a b ha hb (hm a h1) (hm b h2) he⟩
      replace e : upd (F 59) c.toNatClampNeg (-1) t2 = nI l2 := e
      by_cases q : t2 = c.toNatClampNeg
      · rw [q, pk_us] at e
        have : ∀ l, l < 3 → ¬ (-1 : Int32) = nI l := by decide
        exact absurd e (this l2 hl2)
      · rw [pk_un q] at e; exact vs.2 t2 ht2 l2 hl2 e j hj
    · rw [if_neg c2]; exact ⟨rfl, vs, fun _ _ => rfl, dd⟩
  · rw [if_neg c1]; exact ⟨rfl, vs, fun _ _ => rfl, dd⟩
theorem refI_okg {LN SZ : Nat → Int32} {t m z : Nat} {lane i : Int32} (hm : m < 2 ^ 31) (hz : z ≤ 16) (eZ : SZ t = nI z) (h : 0 ≤ refI LN SZ t lane i (nI m)) : LN t = lane ∧ ∃ k, i = nI k ∧ k < 2 ^ 31 ∧ k + m ≤ z := by
  unfold refI at h
  by_cases c1 : 0 ≤ LN t
  · rw [if_pos c1] at h
    by_cases c2 : LN t = lane
    · rw [if_pos c2] at h
      by_cases c3 : i < 0
      · rw [if_pos c3] at h; exact absurd h (by decide)
      · rw [if_neg c3] at h
        by_cases c4 : i.toInt64 + (nI m).toInt64 ≤ (SZ t).toInt64
        · refine ⟨c2, ?_⟩
          obtain ⟨k, hk, rfl⟩ := nI_of c3
          refine ⟨k, rfl, hk, ?_⟩
          rw [eZ] at c4
          rw [nI_l (by omega), nI_l (by omega), nI_l (by omega), lN_add] at c4
          exact (pk_lLE (by omega) (by omega)).mp c4
        · rw [if_neg c4] at h; exact absurd h (by decide)
    · rw [if_neg c2] at h; exact absurd h (by decide)
  · rw [if_neg c1] at h; exact absurd h (by decide)
theorem cpy_ok {s : Nat → Int32} {F : Nat → Nat → Int32} (vs : VS F) (fr i to j nn : Int32) : (cpyP s F fr i to j nn).2.1 = s ∧ VS (cpyP s F fr i to j nn).2.2 ∧ ∀ k, ¬ (59 ≤ k ∧ k ≤ 61) → (cpyP s F fr i to j nn).2.2 k = F k := by
  have same : ∀ x : Int32, ((x, s, F) : OR).2.1 = s ∧ VS ((x, s, F) : OR).2.2 ∧ ∀ k, ¬ (59 ≤ k ∧ k ≤ 61) → ((x, s, F) : OR).2.2 k = F k := fun _ => ⟨rfl, vs, fun _ _ => rfl⟩
  unfold cpyP
  by_cases c1 : b2i (inI fr 0 3) = 0
  · rw [if_pos c1]; exact same _
  rw [if_neg c1]
  by_cases c2 : ¬ b2i (inI to 0 3) = 0
  · rw [if_pos c2]
    by_cases c3 : F 59 fr.toNatClampNeg < 0
    · rw [if_pos c3]; exact same _
    rw [if_neg c3]
    by_cases c4 : 0 ≤ F 59 to.toNatClampNeg
    · rw [if_pos c4]
      by_cases c5 : F 59 fr.toNatClampNeg = F 59 to.toNatClampNeg
      · rw [if_pos c5]
        by_cases c6 : nn < 0
        · rw [if_pos c6]; exact same _
        rw [if_neg c6]
        by_cases c7 : refI (F 59) (F 60) fr.toNatClampNeg (F 59 fr.toNatClampNeg) i nn < 0
        · rw [if_pos c7]; exact same _
        rw [if_neg c7]
        by_cases c8 : 0 ≤ refI (F 59) (F 60) to.toNatClampNeg (F 59 to.toNatClampNeg) j nn
        · rw [if_pos c8]
          obtain ⟨t, -, ht, rfl⟩ := inI_nat (c := fr) (lo := 0) (hi := 3) (by omega) (by omega) (b2i_1.mp c1)
          obtain ⟨u, -, hu, rfl⟩ := inI_nat (c := to) (lo := 0) (hi := 3) (by omega) (by omega) (b2i_1.mp c2)
          obtain ⟨m, hm, rfl⟩ := nI_of c6
          rw [nI_clamp (n := t) (by omega)] at c3 c5 c7 ⊢
          rw [nI_clamp (n := u) (by omega)] at c4 c5 c8 ⊢
          obtain ⟨z1, hz1, ez1⟩ := vs.1 t (by omega)
          obtain ⟨z2, hz2, ez2⟩ := vs.1 u (by omega)
          obtain ⟨-, x, rfl, hx, hx2⟩ := refI_okg hm hz1 ez1 (Int32.not_lt.mp c7)
          obtain ⟨-, y, rfl, hy, hy2⟩ := refI_okg hm hz2 ez2 c8
          rw [nI_clamp hx, nI_clamp hy, nI_clamp hm]
          refine ⟨rfl, ⟨vs.1, fun t2 ht2 l2 hl2 e o ho => ?_⟩, fun k hk => va_up_ne _ _ (by omega)⟩
          show fits (lnT l2) (.int (cpI (F 61) (fun k => F 61 (16 * t + x + k)) (16 * u + y) m (16 * t2 + o))) = true
          replace e : F 59 t2 = nI l2 := e
          by_cases q : 16 * u + y ≤ 16 * t2 + o ∧ 16 * t2 + o < 16 * u + y + m
          · rw [cpI_at m _ q.1 q.2]
            have : t2 = u := by omega
            subst this
            have h1 := vs.2 t (by omega) l2 hl2 (c5.trans e) (x + (16 * t2 + o - (16 * t2 + y))) (by omega)
            rw [← Nat.add_assoc] at h1
            exact h1
          · rw [cpI_off m _ q]; exact vs.2 t2 ht2 l2 hl2 e o ho
        · rw [if_neg c8]; exact same _
      · rw [if_neg c5]; exact same _
    · rw [if_neg c4]; exact same _
  · rw [if_neg c2]; exact same _
theorem wy_cell {F35 F36 : Nat → Int32} {nr nt nf : Int32} {a T S U H : Nat} : ∀ (r v : Nat) (nd : ND), v + r = H → okN T S v nd → ∀ w ∈ wyN F35 F36 nr nt nf a T S U r v nd, ∀ j, j ≤ H → w.1 j < 100
  | 0, v, nd, hv, ok, w, hw => by
    rcases List.mem_singleton.mp hw with rfl
    intro j hj
    exact ok.1 j (by omega)
  | r + 1, v, nd, hv, ok, w, hw => by
    rw [wyN_s] at hw
    obtain ⟨c, hc, hw⟩ := List.mem_flatMap.mp hw
    unfold wcN at hw
    cases hq : cdN T S v nd c with
    | none => rw [hq] at hw; cases hw
    | some q =>
      rw [hq] at hw
      replace hw : w ∈ (match goN F35 F36 nr nt nf a U v nd q with | none => [] | some nd' => wyN F35 F36 nr nt nf a T S U r (v + 1) nd') := hw
      cases hg : goN F35 F36 nr nt nf a U v nd q with
      | none => rw [hg] at hw; cases hw
      | some nd' =>
        rw [hg] at hw
        exact wy_cell r (v + 1) nd' (by omega) (okN_go ok (okQ_cd ok (List.mem_range.mp hc) hq) hg) w hw
theorem flI_at {f : Nat → Int32} {w : WY} {b : Nat} : ∀ (N q : Nat), b ≤ q → q < b + N → flI f w b N q = nI (w.1 (q - b))
  | 0, q, h1, h2 => by omega
  | N + 1, q, h1, h2 => by
    rw [flI]
    by_cases e : q = b + N
    · subst e; rw [pk_us, Nat.add_sub_cancel_left]
    · rw [pk_un e]; exact flI_at N q h1 (by omega)
theorem flm_ok {s : Nat → Int32} {F : Nat → Nat → Int32} {H : Nat} {ws : List WY} (hH : H ≤ 6) (hws : ∀ w ∈ ws, ∀ j, j ≤ H → w.1 j < 100) (vs : VS F) (ki c lane i : Int32) : (flmP s F H ws ki c lane i).2.1 = s ∧ VS (flmP s F H ws ki c lane i).2.2 ∧ ∀ k, ¬ k = 61 → (flmP s F H ws ki c lane i).2.2 k = F k := by
  have same : ∀ x : Int32, ((x, s, F) : OR).2.1 = s ∧ VS ((x, s, F) : OR).2.2 ∧ ∀ k, ¬ k = 61 → ((x, s, F) : OR).2.2 k = F k := fun _ => ⟨rfl, vs, fun _ _ => rfl⟩
  unfold flmP
  by_cases c0 : ki < 0
  · rw [if_pos c0]; exact same _
  rw [if_neg c0]
  by_cases c1 : b2i (inI c 0 3) = 0
  · rw [if_pos c1]; exact same _
  rw [if_neg c1]
  by_cases c2 : ¬ b2i (inI lane 0 2) = 0
  · rw [if_pos c2]
    by_cases c3 : 0 ≤ refI (F 59) (F 60) c.toNatClampNeg lane i (nI (H + 1))
    · rw [if_pos c3]
      cases hw : ws[ki.toNatClampNeg]? with
      | none => exact same _
      | some w =>
        obtain ⟨t, -, ht, rfl⟩ := inI_nat (c := c) (lo := 0) (hi := 3) (by omega) (by omega) (b2i_1.mp c1)
        rw [nI_clamp (n := t) (by omega)] at c3 ⊢
        obtain ⟨z, hz, ez⟩ := vs.1 t (by omega)
        obtain ⟨-, k, rfl, hk, hk2⟩ := refI_okg (m := H + 1) (by omega) hz ez c3
        rw [nI_clamp hk]
        refine ⟨rfl, ⟨vs.1, fun t2 ht2 l2 hl2 e j hj => ?_⟩, fun k hk => va_up_ne _ _ hk⟩
        show fits (lnT l2) (.int (flI (F 61) w (16 * t + k) (H + 1) (16 * t2 + j))) = true
        replace e : F 59 t2 = nI l2 := e
        by_cases q : 16 * t + k ≤ 16 * t2 + j ∧ 16 * t2 + j < 16 * t + k + (H + 1)
        · rw [flI_at _ _ q.1 q.2]
          exact fit_c hl2 (hws w (List.mem_of_getElem? hw) _ (by omega))
        · rw [flI_ne (H + 1) (by omega)]; exact vs.2 t2 ht2 l2 hl2 e j hj
    · rw [if_neg c3]; exact same _
  · rw [if_neg c2]; exact same _
section OPT2
variable {l : Launch} {G : GW} {h : AH} {n : Nat}
theorem op_sheet (hfl : noTr l) (wo : WO h n) (c lane nn : Int32) : OPW l G yX0_sheet yX4_sheet cX0_sheet cX4_sheet 5 5 (some .int) 300 3 3 4010 [.int c, .int lane, .int nn] h n := by
  obtain ⟨sx, s, al, F, FL, Fk, np, nd, npk, ndk, e1, e2, e3, e4, tp, rr, w, mc, v⟩ := wo
  have w' := w
  obtain ⟨w0, x1, xt, ⟨m3, w3⟩, ⟨m4, w4⟩, w5, w6, sc, -, -, -, dj, sh, dd, dz⟩ := w'
  have v' := v
  obtain ⟨vd, vk, vs, vt, vp, h7, hx3, h25, h27, hx18, -⟩ := v'
  have vd' := vd
  obtain ⟨⟨a, b, H, T, S, U, g, wd, wk⟩, ok, by_, hR1, h4, h5⟩ := vd'
  have mk := mkc_of wk ok h25 h27 h4 h5
  obtain ⟨o1, o2, o3⟩ := sht_ok (s := s) vs c lane nn
  refine OPW.t (p := shtP s F c lane nn) mc (xc_sheet hfl (sm := s) x1 sh dd w0 c lane nn) (fun r h1 n1 q => ?_) (fun h1 n1 mc1 => mc_sheet mc1 c lane nn)
  obtain ⟨q1, q2, q3, rr2, q4⟩ := w.sp q o3
  exact ⟨q1, q3, sx, Fk, np, nd, npk, ndk, e1, e2, e3, e4, tp, rr2, q4, by rw [o1]; exact v.s o2 o3 ⟨rfl, rfl⟩⟩
theorem op_item (hfl : noTr l) (wo : WO h n) (c lane i vv : Int32) : OPW l G yX0_item yX4_item cX0_item cX4_item 6 6 (some .int) 300 3 3 4010 [.int c, .int lane, .int i, .int vv] h n := by
  obtain ⟨sx, s, al, F, FL, Fk, np, nd, npk, ndk, e1, e2, e3, e4, tp, rr, w, mc, v⟩ := wo
  have w' := w
  obtain ⟨w0, x1, xt, ⟨m3, w3⟩, ⟨m4, w4⟩, w5, w6, sc, -, -, -, dj, sh, dd, dz⟩ := w'
  have v' := v
  obtain ⟨vd, vk, vs, vt, vp, h7, hx3, h25, h27, hx18, -⟩ := v'
  have vd' := vd
  obtain ⟨⟨a, b, H, T, S, U, g, wd, wk⟩, ok, by_, hR1, h4, h5⟩ := vd'
  have mk := mkc_of wk ok h25 h27 h4 h5
  obtain ⟨o1, o2, o3⟩ := itm_ok (s := s) vs c lane i vv
  refine OPW.t (p := itmP s F c lane i vv) mc (xc_item hfl (sm := s) x1 sh dd w0 c lane i vv) (fun r h1 n1 q => ?_) (fun h1 n1 mc1 => mc_item mc1 vs.1 c lane i vv)
  obtain ⟨q1, q2, q3, rr2, q4⟩ := w.sp q o3
  exact ⟨q1, q3, sx, Fk, np, nd, npk, ndk, e1, e2, e3, e4, tp, rr2, q4, by rw [o1]; exact v.s o2 o3 ⟨rfl, rfl⟩⟩
theorem op_copy (hfl : noTr l) (wo : WO h n) (fr i to j nn : Int32) : OPW l G yX0_copy yX4_copy cX0_copy cX4_copy 7 7 (some .int) 300 3 3 4010 [.int fr, .int i, .int to, .int j, .int nn] h n := by
  obtain ⟨sx, s, al, F, FL, Fk, np, nd, npk, ndk, e1, e2, e3, e4, tp, rr, w, mc, v⟩ := wo
  have w' := w
  obtain ⟨w0, x1, xt, ⟨m3, w3⟩, ⟨m4, w4⟩, w5, w6, sc, -, -, -, dj, sh, dd, dz⟩ := w'
  have v' := v
  obtain ⟨vd, vk, vs, vt, vp, h7, hx3, h25, h27, hx18, -⟩ := v'
  have vd' := vd
  obtain ⟨⟨a, b, H, T, S, U, g, wd, wk⟩, ok, by_, hR1, h4, h5⟩ := vd'
  have mk := mkc_of wk ok h25 h27 h4 h5
  obtain ⟨o1, o2, o3⟩ := cpy_ok (s := s) vs fr i to j nn
  refine OPW.t (p := cpyP s F fr i to j nn) mc (xc_copy hfl (sm := s) x1 sh dd w0 vs.2 fr i to j nn) (fun r h1 n1 q => ?_) (fun h1 n1 mc1 => mc_copy mc1 vs.1 fr i to j nn)
  obtain ⟨q1, q2, q3, rr2, q4⟩ := w.sp q o3
  exact ⟨q1, q3, sx, Fk, np, nd, npk, ndk, e1, e2, e3, e4, tp, rr2, q4, by rw [o1]; exact v.s o2 o3 ⟨rfl, rfl⟩⟩
theorem op_drop (wo : WO h n) (c : Int32) : OPP l G yX0_drop yX4_drop cX0_drop cX4_drop 3 2 (some .int) 2 3 0 0 [.int c] h n := by
  obtain ⟨sx, s, al, F, FL, Fk, np, nd, npk, ndk, e1, e2, e3, e4, tp, rr, w, mc, v⟩ := wo
  have w' := w
  obtain ⟨w0, x1, xt, ⟨m3, w3⟩, ⟨m4, w4⟩, w5, w6, sc, -, -, -, dj, sh, dd, dz⟩ := w'
  have v' := v
  obtain ⟨vd, vk, vs, vt, vp, h7, hx3, h25, h27, hx18, -⟩ := v'
  have vd' := vd
  obtain ⟨⟨a, b, H, T, S, U, g, wd, wk⟩, ok, by_, hR1, h4, h5⟩ := vd'
  have mk := mkc_of wk ok h25 h27 h4 h5
  obtain ⟨o1, o2, o3, o4⟩ := drp_ok (s := s) vs dd c
  refine OPP.t (p := drpP s F c) mc (xc_drop (sm := s) x1 sh c) (fun r h1 n1 q => ?_) (fun h1 n1 mc1 => mc_drop mc1 c)
  obtain ⟨q1, q2, q3, rr2, q4⟩ := w.x q o3 o4
  subst q2
  exact ⟨q1, q3, sx, Fk, np, nd, npk, ndk, e1, e2, e3, e4, tp, rr2, q4, by rw [o1]; exact v.s o2 (fun k hk => o3 k (by omega)) ⟨rfl, rfl⟩⟩
theorem op_film (wo : WO h n) (ki c lane i : Int32) : OPP l G yX0_film yX4_film cX0_film cX4_film 8 7 (some .int) 33 5 2 12 [.int ki, .int c, .int lane, .int i] h n := by
  obtain ⟨sx, s, al, F, FL, Fk, np, nd, npk, ndk, e1, e2, e3, e4, tp, rr, w, mc, v⟩ := wo
  have w' := w
  obtain ⟨w0, x1, xt, ⟨m3, w3⟩, ⟨m4, w4⟩, w5, w6, sc, -, -, -, dj, sh, dd, dz⟩ := w'
  have v' := v
  obtain ⟨vd, vk, vs, vt, vp, h7, hx3, h25, h27, hx18, -⟩ := v'
  have vd' := vd
  obtain ⟨⟨a, b, H, T, S, U, g, wd, wk⟩, ok, by_, hR1, h4, h5⟩ := vd'
  have mk := mkc_of wk ok h25 h27 h4 h5
  obtain ⟨ce, x16⟩ := sc.2.2.2.1
  have hE0 : ∀ R, EnM (F 34) (F 35) (F 36) 0 0 0 a H (allW F 0 0 0 a b H T S U) 0 (begR (F 34 1) R) := fun R => wk_en wk R
  obtain ⟨o1, o2, o3⟩ := flm_ok (s := s) (F := F) (H := H) (ws := allW F 0 0 0 a b H T S U) wk.2.2.2.2.2.2.1 (wy_cell H 0 (rtN b) (by omega) (rt_ok wk.2.2.2.1)) vs ki c lane i
  refine OPP.t (p := flmP s F H (allW F 0 0 0 a b H T S U) ki c lane i) mc (xc_film w0 x1 x16 xt wk sc (sm := s) sh dd ki c lane i) (fun r h1 n1 q => ?_) (fun h1 n1 mc1 => mc_film mc1 mk hE0 vs.1 ki c lane i)
  obtain ⟨q1, q2, q3, sx', q5, rr2, q4⟩ := w.f q o3
  exact ⟨q1, q3, sx', Fk, np, nd, npk, ndk, e1, e2, e3, e4, tp, rr2, q4, by rw [o1]; exact v.s o2 (fun k hk => o3 k (by omega)) q5⟩
end OPT2
