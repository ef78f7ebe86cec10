/-! set, ring, cell, depth, drag, piece, clear as pairs of calls (printed by gen/wo4.py) -/
set_option maxRecDepth 100000
theorem in_m1 {v : Int32} (h : ¬ b2i (inL v.toInt64 (-1) 40) = 0) : v = -1 ∨ ∃ j, j ≤ 40 ∧ v = nI j := by
  rw [show inL v.toInt64 (-1) 40 = inI v (-1) 40 from inL_I v (-1) 40] at h
  obtain ⟨h1, h2⟩ := inI_iff.mp (b2i_1.mp h)
  by_cases c : v < 0
  · left
    have i1 := Int32.le_iff_toInt_le.mp h1
    have i2 := Int32.lt_iff_toInt_lt.mp c
    have e1 : (-1 : Int32).toInt = -1 := by decide
    have e2 : (0 : Int32).toInt = 0 := by decide
    refine Int32.toInt_inj.mp ?_
    omega
  · obtain ⟨j, hj, rfl⟩ := nI_of2 (M := 40) (n := 40) rfl c h2
    exact Or.inr ⟨j, hj, rfl⟩
theorem rng_ok {s : Nat → Int32} {F : Nat → Nat → Int32} {np nd : Nat} (vd : VD F np nd) (hr wh v : Int32) : (rngP s F hr wh v).2.1 = s ∧ VD (rngP s F hr wh v).2.2 np nd ∧ ∀ k, ¬ (34 ≤ k ∧ k ≤ 39) → (rngP s F hr wh v).2.2 k = F k := by
  unfold rngP
  by_cases c1 : b2i (inL hr.toInt64 1 6) = 0
  · rw [if_pos c1]; exact ⟨rfl, vd, fun _ _ => rfl⟩
  rw [if_neg c1]
  by_cases c2 : b2i (inL wh.toInt64 0 1) = 0
  · rw [if_pos c2]; exact ⟨rfl, vd, fun _ _ => rfl⟩
  rw [if_neg c2]
  by_cases c5 : ¬ wh = 0
  · rw [if_pos c5, if_pos c5]
    by_cases c4 : ¬ b2i (inL v.toInt64 0 2) = 0
    · rw [if_pos c4, if_pos c5]
      exact ⟨rfl, vd.ton, up_off (by omega)⟩
    · rw [if_neg c4]; exact ⟨rfl, vd, fun _ _ => rfl⟩
  · rw [if_neg c5, if_neg c5]
    by_cases c4 : ¬ b2i (inL v.toInt64 (-1) 40) = 0
    · rw [if_pos c4, if_neg c5]
      exact ⟨rfl, vd.rin (in_m1 c4), up_off (by omega)⟩
    · rw [if_neg c4]; exact ⟨rfl, vd, fun _ _ => rfl⟩
theorem set_ok {s : Nat → Int32} {F : Nat → Nat → Int32} {np nd : Nat} (vd : VD F np nd) (w v : Int32) : (setP s F w v).2.1 = s ∧ VD (setP s F w v).2.2 np nd ∧ ∀ k, ¬ (34 ≤ k ∧ k ≤ 39) → (setP s F w v).2.2 k = F k := by
  unfold setP
  by_cases c1 : ¬ b2i (inL w.toInt64 0 7) = 0
  · rw [if_pos c1]
    by_cases c2 : ¬ b2i (inL v.toInt64 (if ¬ w = 2 then 0 else 1) (setM w).toInt64) = 0
    · rw [if_pos c2]
      obtain ⟨k, -, hk, rfl⟩ := in_nat (lo := 0) (hi := 7) (by omega) (by omega) c1
      rw [nI_clamp (by omega)]
      have key : ∃ j, v = nI j ∧ ((k = 0 ∧ j ≤ 99) ∨ (k = 1 ∧ j ≤ 99) ∨ (k = 2 ∧ 1 ≤ j ∧ j ≤ 6) ∨ (k = 3 ∧ j ≤ 2) ∨ (k = 4 ∧ j ≤ 1) ∨ (k = 5 ∧ j ≤ 60) ∨ (k = 6 ∧ j ≤ 3) ∨ (k = 7 ∧ j ≤ 8)) := by
        rcases (show k = 0 ∨ k = 1 ∨ k = 2 ∨ k = 3 ∨ k = 4 ∨ k = 5 ∨ k = 6 ∨ k = 7 by omega) with rfl | rfl | rfl | rfl | rfl | rfl | rfl | rfl
        · obtain ⟨j, h1, h2, rfl⟩ := in_nat (lo := 0) (hi := 99) (by omega) (by omega) (show ¬ b2i (inL v.toInt64 (nI 0).toInt64 (nI 99).toInt64) = 0 from c2)
          exact ⟨j, rfl, by omega⟩
        · obtain ⟨j, h1, h2, rfl⟩ := in_nat (lo := 0) (hi := 99) (by omega) (by omega) (show ¬ b2i (inL v.toInt64 (nI 0).toInt64 (nI 99).toInt64) = 0 from c2)
          exact ⟨j, rfl, by omega⟩
        · obtain ⟨j, h1, h2, rfl⟩ := in_nat (lo := 1) (hi := 6) (by omega) (by omega) (show ¬ b2i (inL v.toInt64 (nI 1).toInt64 (nI 6).toInt64) = 0 from c2)
          exact ⟨j, rfl, by omega⟩
        · obtain ⟨j, h1, h2, rfl⟩ := in_nat (lo := 0) (hi := 2) (by omega) (by omega) (show ¬ b2i (inL v.toInt64 (nI 0).toInt64 (nI 2).toInt64) = 0 from c2)
          exact ⟨j, rfl, by omega⟩
        · obtain ⟨j, h1, h2, rfl⟩ := in_nat (lo := 0) (hi := 1) (by omega) (by omega) (show ¬ b2i (inL v.toInt64 (nI 0).toInt64 (nI 1).toInt64) = 0 from c2)
          exact ⟨j, rfl, by omega⟩
        · obtain ⟨j, h1, h2, rfl⟩ := in_nat (lo := 0) (hi := 60) (by omega) (by omega) (show ¬ b2i (inL v.toInt64 (nI 0).toInt64 (nI 60).toInt64) = 0 from c2)
          exact ⟨j, rfl, by omega⟩
        · obtain ⟨j, h1, h2, rfl⟩ := in_nat (lo := 0) (hi := 3) (by omega) (by omega) (show ¬ b2i (inL v.toInt64 (nI 0).toInt64 (nI 3).toInt64) = 0 from c2)
          exact ⟨j, rfl, by omega⟩
        · obtain ⟨j, h1, h2, rfl⟩ := in_nat (lo := 0) (hi := 8) (by omega) (by omega) (show ¬ b2i (inL v.toInt64 (nI 0).toInt64 (nI 8).toInt64) = 0 from c2)
          exact ⟨j, rfl, by omega⟩
      obtain ⟨j, rfl, hj⟩ := key
      exact ⟨rfl, vd.set hj, up_off (by omega)⟩
    · rw [if_neg c2]; exact ⟨rfl, vd, fun _ _ => rfl⟩
  · rw [if_neg c1]; exact ⟨rfl, vd, fun _ _ => rfl⟩
theorem VV.l {sx sx' s s' : Nat → Int32} {F F' Fk : Nat → Nat → Int32} {np nd np' nd' npk ndk tp : Nat} (v : VV sx s F Fk np nd npk ndk tp) (vd : VD F' np' nd') (e : ∀ k, k = 40 ∨ (58 ≤ k ∧ k ≤ 61) → F' k = F k) (x3 : sx' 3 = sx 3) (x18 : sx' 18 = sx 18) (s7 : s' 7 = s 7) (s37 : s' 37 = s 37) (s25 : s' 25 = nI np') (s27 : s' 27 = nI nd') : VV sx' s' F' Fk np' nd' npk ndk tp := by
  obtain ⟨v1, v2, v3, v4, v5, v6, v7, v8, v9, v10, v11⟩ := v
  exact ⟨vd, v2, v3.cg (fun k hk => e k (by omega)), by rw [e 40 (by omega)]; exact v4, v5, s7.trans v6, x3.trans v7, s25, s27, by rw [x18, s37]; exact v10, fun hk => (v11 (by rw [← s37]; exact hk)).cg (e 58 (by omega))⟩
theorem drg_ok {s : Nat → Int32} {F : Nat → Nat → Int32} {np nd : Nat} (vd : VD F np nd) (h27 : s 27 = nI nd) (c v : Int32) : ∃ nd', (drgP s F nd c v).2.1 27 = nI nd' ∧ VD (drgP s F nd c v).2.2 np nd' ∧ (∀ k, ¬ k = 53 → ¬ k = 54 → (drgP s F nd c v).2.2 k = F k) ∧ ∀ j, ¬ j = 27 → (drgP s F nd c v).2.1 j = s j := by
  unfold drgP
  by_cases c1 : b2i (inI c 0 99) = 0
  · rw [if_pos c1]; exact ⟨nd, h27, vd, fun _ _ _ => rfl, fun _ _ => rfl⟩
  rw [if_neg c1]
  by_cases c2 : ¬ b2i (inL v.toInt64 1 7) = 0
  · rw [if_pos c2]
    by_cases c3 : ¬ nI nd = 4
    · rw [if_pos c3]
      obtain ⟨j, h1, h2, rfl⟩ := in_nat (lo := 1) (hi := 7) (by omega) (by omega) c2
      obtain ⟨v1, ⟨o1, o2, o3, o4⟩, v3, v4, v5, v6⟩ := vd
      have hn4 : ¬ nd = 4 := fun e => c3 (by rw [e]; rfl)
      refine ⟨nd + 1, (show upd s 27 (nI (nd + 1)) 27 = _ from pk_us), ⟨v1, ⟨o1, fun i hi => ?_, o3, o4⟩, v3, v4, v5, by omega⟩, fun k k1 k2 => (va_up_ne _ _ k1).trans (va_up_ne _ _ k2), fun i hi => pk_un hi⟩
      show ∃ d, 1 ≤ d ∧ d ≤ 7 ∧ upd (F 54) nd (nI j) i = nI d
      by_cases e : i = nd
      · rw [e, pk_us]; exact ⟨j, h1, h2, rfl⟩
      · rw [pk_un e]; exact o2 i (by omega)
    · rw [if_neg c3]; exact ⟨nd, h27, vd, fun _ _ _ => rfl, fun _ _ => rfl⟩
  · rw [if_neg c2]; exact ⟨nd, h27, vd, fun _ _ _ => rfl, fun _ _ => rfl⟩
theorem pie_ok {s : Nat → Int32} {F : Nat → Nat → Int32} {np nd : Nat} (vd : VD F np nd) (h25 : s 25 = nI np) (c mo hi ag ne : Int32) : ∃ np', (pieP s F np c mo hi ag ne).2.1 25 = nI np' ∧ VD (pieP s F np c mo hi ag ne).2.2 np' nd ∧ (∀ k, ¬ k = 52 → (pieP s F np c mo hi ag ne).2.2 k = F k) ∧ ∀ j, ¬ j = 25 → (pieP s F np c mo hi ag ne).2.1 j = s j := by
  have same : ∃ np', s 25 = nI np' ∧ VD F np' nd ∧ (∀ k, ¬ k = 52 → F k = F k) ∧ ∀ j, ¬ j = 25 → s j = s j := ⟨np, h25, vd, fun _ _ => rfl, fun _ _ => rfl⟩
  unfold pieP
  by_cases c1 : b2i (inI c 0 99) = 0
  · rw [if_pos c1]; exact same
  rw [if_neg c1]
  by_cases c2 : b2i (inL mo.toInt64 1 24) = 0
  · rw [if_pos c2]; exact same
  rw [if_neg c2]
  by_cases c3 : b2i (inL hi.toInt64 0 1) = 0
  · rw [if_pos c3]; exact same
  rw [if_neg c3]
  by_cases c4 : b2i (inL ag.toInt64 0 mo.toInt64) = 0
  · rw [if_pos c4]; exact same
  rw [if_neg c4]
  by_cases c5 : ¬ b2i (inL ne.toInt64 0 9) = 0
  · rw [if_pos c5]
    by_cases c6 : ¬ nI np = 4
    · rw [if_pos c6]
      obtain ⟨x, -, hx, rfl⟩ := inI_nat (c := c) (lo := 0) (hi := 99) (by omega) (by omega) (b2i_1.mp c1)
      obtain ⟨y, -, hy, rfl⟩ := in_nat (lo := 1) (hi := 24) (by omega) (by omega) c2
      obtain ⟨v1, ⟨o1, o2, o3, o4⟩, v3, v4, v5, v6⟩ := vd
      have hn4 : ¬ np = 4 := fun e => c6 (by rw [e]; rfl)
      refine ⟨np + 1, (show upd s 25 (nI (np + 1)) 25 = _ from pk_us), ⟨v1, ⟨fun i hi2 => ?_, o2, o3, o4⟩, v3, v4, by omega, v6⟩, fun k k1 => va_up_ne _ _ k1, fun i hi => pk_un hi⟩
      show ∃ c0 N, c0 < 100 ∧ N < 100 ∧ upd (upd (upd (upd (upd (F 52) (5 * np) (nI x)) (5 * np + 1) (nI y)) (5 * np + 2) hi) (5 * np + 3) ag) (5 * np + 4) ne (5 * i) = nI c0 ∧ upd (upd (upd (upd (upd (F 52) (5 * np) (nI x)) (5 * np + 1) (nI y)) (5 * np + 2) hi) (5 * np + 3) ag) (5 * np + 4) ne (5 * i + 1) = nI N
      by_cases e : i = np
      · subst e
        exact ⟨x, y, by omega, by omega, by rw [pk_un (by omega), pk_un (by omega), pk_un (by omega), pk_un (by omega), pk_us], by rw [pk_un (by omega), pk_un (by omega), pk_un (by omega), pk_us]⟩
      · obtain ⟨c0, N, g1, g2, g3, g4⟩ := o1 i (by omega)
        exact ⟨c0, N, g1, g2, by rw [pk_un (by omega), pk_un (by omega), pk_un (by omega), pk_un (by omega), pk_un (by omega)]; exact g3, by rw [pk_un (by omega), pk_un (by omega), pk_un (by omega), pk_un (by omega), pk_un (by omega)]; exact g4⟩
    · rw [if_neg c6]; exact same
  · rw [if_neg c5]; exact same
section OPT
variable {l : Launch} {G : GW} {h : AH} {n : Nat}
theorem op_depth (wo : WO h n) (c vv : Int32) : OPP l G yX0_depth yX4_depth cX0_depth cX4_depth 4 4 (some .int) 2 2 0 0 [.int c, .int vv] h n := by
  obtain ⟨sx, s, al, F, FL, Fk, np, nd, npk, ndk, e1, e2, e3, e4, tp, rr, w, mc, v⟩ := wo
  have w' := w
  obtain ⟨w0, x1, xt, ⟨m3, w3⟩, ⟨m4, w4⟩, w5, w6, sc, -, -, -, dj, sh, dd, dz⟩ := w'
  have v' := v
  obtain ⟨vd, vk, vs, vt, vp, h7, hx3, h25, h27, hx18, -⟩ := v'
  have vd' := vd
  obtain ⟨⟨a, b, H, T, S, U, g, wd, wk⟩, ok, by_, hR1, h4, h5⟩ := vd'
  have mk := mkc_of wk ok h25 h27 h4 h5
  obtain ⟨o1, o2, o3⟩ := dep_ok (s := s) vd c vv
  refine OPP.t (p := depP s F c vv) mc (xc_depth (sm := s) x1 xt c vv) (fun r h1 n1 q => ?_) (fun h1 n1 mc1 => mc_depth mc1 c vv)
  obtain ⟨q1, q2, q3, q4⟩ := w.u q o3
  subst q2
  exact ⟨q1, fun k hk => q3 k (by omega), sx, Fk, np, nd, npk, ndk, e1, e2, e3, e4, tp, rr, q4, by rw [o1]; exact v.t o2 o3⟩
theorem op_cell (wo : WO h n) (se c wh vv : Int32) : OPP l G yX0_cell yX4_cell cX0_cell cX4_cell 7 7 (some .int) 2 2 0 0 [.int se, .int c, .int wh, .int vv] h n := by
  obtain ⟨sx, s, al, F, FL, Fk, np, nd, npk, ndk, e1, e2, e3, e4, tp, rr, w, mc, v⟩ := wo
  have w' := w
  obtain ⟨w0, x1, xt, ⟨m3, w3⟩, ⟨m4, w4⟩, w5, w6, sc, -, -, -, dj, sh, dd, dz⟩ := w'
  have v' := v
  obtain ⟨vd, vk, vs, vt, vp, h7, hx3, h25, h27, hx18, -⟩ := v'
  have vd' := vd
  obtain ⟨⟨a, b, H, T, S, U, g, wd, wk⟩, ok, by_, hR1, h4, h5⟩ := vd'
  have mk := mkc_of wk ok h25 h27 h4 h5
  obtain ⟨o1, o2, o3⟩ := cel_ok (s := s) vd se c wh vv
  refine OPP.t (p := celP s F se c wh vv) mc (xc_cell (sm := s) x1 xt se c wh vv) (fun r h1 n1 q => ?_) (fun h1 n1 mc1 => mc_cell mc1 se c wh vv)
  obtain ⟨q1, q2, q3, q4⟩ := w.u q o3
  subst q2
  exact ⟨q1, fun k hk => q3 k (by omega), sx, Fk, np, nd, npk, ndk, e1, e2, e3, e4, tp, rr, q4, by rw [o1]; exact v.t o2 o3⟩
theorem op_ring (wo : WO h n) (hr wh vv : Int32) : OPP l G yX0_ring yX4_ring cX0_ring cX4_ring 5 5 (some .int) 2 2 0 0 [.int hr, .int wh, .int vv] h n := by
  obtain ⟨sx, s, al, F, FL, Fk, np, nd, npk, ndk, e1, e2, e3, e4, tp, rr, w, mc, v⟩ := wo
  have w' := w
  obtain ⟨w0, x1, xt, ⟨m3, w3⟩, ⟨m4, w4⟩, w5, w6, sc, -, -, -, dj, sh, dd, dz⟩ := w'
  have v' := v
  obtain ⟨vd, vk, vs, vt, vp, h7, hx3, h25, h27, hx18, -⟩ := v'
  have vd' := vd
  obtain ⟨⟨a, b, H, T, S, U, g, wd, wk⟩, ok, by_, hR1, h4, h5⟩ := vd'
  have mk := mkc_of wk ok h25 h27 h4 h5
  obtain ⟨o1, o2, o3⟩ := rng_ok (s := s) vd hr wh vv
  refine OPP.t (p := rngP s F hr wh vv) mc (xc_ring (sm := s) x1 xt hR1 hr wh vv) (fun r h1 n1 q => ?_) (fun h1 n1 mc1 => mc_ring mc1 hr wh vv)
  obtain ⟨q1, q2, q3, q4⟩ := w.u q o3
  subst q2
  exact ⟨q1, fun k hk => q3 k (by omega), sx, Fk, np, nd, npk, ndk, e1, e2, e3, e4, tp, rr, q4, by rw [o1]; exact v.t o2 o3⟩
theorem op_set (wo : WO h n) (wh vv : Int32) : OPP l G yX0_set yX4_set cX0_set cX4_set 5 5 (some .int) 2 2 0 0 [.int wh, .int vv] h n := by
  obtain ⟨sx, s, al, F, FL, Fk, np, nd, npk, ndk, e1, e2, e3, e4, tp, rr, w, mc, v⟩ := wo
  have w' := w
  obtain ⟨w0, x1, xt, ⟨m3, w3⟩, ⟨m4, w4⟩, w5, w6, sc, -, -, -, dj, sh, dd, dz⟩ := w'
  have v' := v
  obtain ⟨vd, vk, vs, vt, vp, h7, hx3, h25, h27, hx18, -⟩ := v'
  have vd' := vd
  obtain ⟨⟨a, b, H, T, S, U, g, wd, wk⟩, ok, by_, hR1, h4, h5⟩ := vd'
  have mk := mkc_of wk ok h25 h27 h4 h5
  obtain ⟨o1, o2, o3⟩ := set_ok (s := s) vd wh vv
  refine OPP.t (p := setP s F wh vv) mc (xc_set (sm := s) x1 xt wh vv) (fun r h1 n1 q => ?_) (fun h1 n1 mc1 => mc_set mc1 wh vv)
  obtain ⟨q1, q2, q3, q4⟩ := w.u q o3
  subst q2
  exact ⟨q1, fun k hk => q3 k (by omega), sx, Fk, np, nd, npk, ndk, e1, e2, e3, e4, tp, rr, q4, by rw [o1]; exact v.t o2 o3⟩
theorem op_drag (wo : WO h n) (c vv : Int32) : OPP l G yX0_drag yX4_drag cX0_drag cX4_drag 3 3 (some .int) 6 2 2 12 [.int c, .int vv] h n := by
  obtain ⟨sx, s, al, F, FL, Fk, np, nd, npk, ndk, e1, e2, e3, e4, tp, rr, w, mc, v⟩ := wo
  have w' := w
  obtain ⟨w0, x1, xt, ⟨m3, w3⟩, ⟨m4, w4⟩, w5, w6, sc, -, -, -, dj, sh, dd, dz⟩ := w'
  have v' := v
  obtain ⟨vd, vk, vs, vt, vp, h7, hx3, h25, h27, hx18, -⟩ := v'
  have vd' := vd
  obtain ⟨⟨a, b, H, T, S, U, g, wd, wk⟩, ok, by_, hR1, h4, h5⟩ := vd'
  have mk := mkc_of wk ok h25 h27 h4 h5
  obtain ⟨nd', o1, o2, o3, o4⟩ := drg_ok (s := s) vd h27 c vv
  refine OPP.t (p := drgP s F nd c vv) mc (xc_drag (sm := s) w0 x1 xt w4 h27 c vv) (fun r h1 n1 q => ?_) (fun h1 n1 mc1 => mc_drag mc1 mk c vv)
  obtain ⟨q1, q2, q3, x, y, q4, q5⟩ := w.d q o3
  have q6 := q5
  obtain ⟨-, -, -, -, ⟨_, lsx⟩, -⟩ := q6
  have ex : x = nd' := nI_inj (by have := lsx.1; omega) (by have := o2.2.2.2.2.2; omega) (q4.symm.trans o1)
  subst ex
  exact ⟨q1, fun k hk => q3 k (by omega) hk, sx, Fk, np, x, npk, ndk, e1, y, e3, e4, tp, rr, (by assumption), v.l o2 (fun k hk => o3 k (by omega) (by omega)) rfl rfl (o4 7 (by omega)) (o4 37 (by omega)) ((o4 25 (by omega)).trans h25) o1⟩
theorem op_piece (wo : WO h n) (c mo hi ag ne : Int32) : OPP l G yX0_piece yX4_piece cX0_piece cX4_piece 6 7 (some .int) 6 2 2 15 [.int c, .int mo, .int hi, .int ag, .int ne] h n := by
  obtain ⟨sx, s, al, F, FL, Fk, np, nd, npk, ndk, e1, e2, e3, e4, tp, rr, w, mc, v⟩ := wo
  have w' := w
  obtain ⟨w0, x1, xt, ⟨m3, w3⟩, ⟨m4, w4⟩, w5, w6, sc, -, -, -, dj, sh, dd, dz⟩ := w'
  have v' := v
  obtain ⟨vd, vk, vs, vt, vp, h7, hx3, h25, h27, hx18, -⟩ := v'
  have vd' := vd
  obtain ⟨⟨a, b, H, T, S, U, g, wd, wk⟩, ok, by_, hR1, h4, h5⟩ := vd'
  have mk := mkc_of wk ok h25 h27 h4 h5
  obtain ⟨np', o1, o2, o3, o4⟩ := pie_ok (s := s) vd h25 c mo hi ag ne
  refine OPP.t (p := pieP s F np c mo hi ag ne) mc (xc_piece (sm := s) w0 x1 xt w3 h25 c mo hi ag ne) (fun r h1 n1 q => ?_) (fun h1 n1 mc1 => mc_piece mc1 mk c mo hi ag ne)
  obtain ⟨q1, q2, q3, x, y, q4, q5⟩ := w.p q o3
  have q6 := q5
  obtain ⟨-, -, -, ⟨_, lsx⟩, -⟩ := q6
  have ex : x = np' := nI_inj (by have := lsx.1; omega) (by have := o2.2.2.2.2.1; omega) (q4.symm.trans o1)
  subst ex
  exact ⟨q1, fun k hk => q3 k (by omega) hk, sx, Fk, x, nd, npk, ndk, y, e2, e3, e4, tp, rr, q5, v.l o2 (fun k hk => o3 k (by omega)) rfl rfl (o4 7 (by omega)) (o4 37 (by omega)) o1 ((o4 27 (by omega)).trans h27)⟩
theorem op_clear (wo : WO h n) : OPP l G yX0_clear yX4_clear cX0_clear cX4_clear 2 2 (some .int) 4 2 0 0 [] h n := by
  obtain ⟨sx, s, al, F, FL, Fk, np, nd, npk, ndk, e1, e2, e3, e4, tp, rr, w, mc, v⟩ := wo
  have w' := w
  obtain ⟨w0, x1, xt, ⟨m3, w3⟩, ⟨m4, w4⟩, w5, w6, sc, -, -, -, dj, sh, dd, dz⟩ := w'
  have v' := v
  obtain ⟨vd, vk, vs, vt, vp, h7, hx3, h25, h27, hx18, -⟩ := v'
  have vd' := vd
  obtain ⟨⟨a, b, H, T, S, U, g, wd, wk⟩, ok, by_, hR1, h4, h5⟩ := vd'
  have mk := mkc_of wk ok h25 h27 h4 h5
  refine OPP.t (p := clrP s F) mc (xc_clear w0 x1 xt w3 w4 (fun z => (dj.2.1 z).1)) (fun r h1 n1 q => ?_) (fun h1 n1 mc1 => mc_clear mc1)
  obtain ⟨q1, q2, q3, q4⟩ := w.c (F' := F) q rfl
  subst q2
  refine ⟨by rw [q1, ← h25, ← h27]; rfl, q3, sx, Fk, 0, 0, npk, ndk, e1, e2, e3, e4, tp, rr, q4, v.l (F' := F) (s' := upd (upd s 25 0) 27 0) ⟨⟨a, b, H, T, S, U, g, wd, wk⟩, ⟨fun j hj => by omega, fun j hj => by omega, ok.2.2⟩, by_, hR1, by omega, by omega⟩ (fun _ _ => rfl) rfl rfl rfl rfl rfl rfl⟩
end OPT
