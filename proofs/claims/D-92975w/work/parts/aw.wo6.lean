/-! type, sea, rings as pairs of calls (printed by gen/wo6.py) -/
set_option maxRecDepth 100000
theorem VV.y {sx sx' s s' : Nat → Int32} {F F' Fk : Nat → Nat → Int32} {np nd npk ndk tp tp' : Nat} (v : VV sx s F Fk np nd npk ndk tp) (vd : VD F' np nd) (e : ∀ k, ¬ (34 ≤ k ∧ k ≤ 40) → F' k = F k) (ot : okT (F' 40) tp') (htp : tp' ≤ 60) (s7 : s' 7 = nI tp') (x3 : sx' 3 = s' 7) (x18 : sx' 18 = sx 18) (es : ∀ j, ¬ j = 7 → s' j = s j) : VV sx' s' F' Fk np nd npk ndk tp' := by
  obtain ⟨v1, v2, v3, v4, v5, v6, v7, v8, v9, v10, v11⟩ := v
  exact ⟨vd, v2, v3.cg (fun k hk => e k (by omega)), ot, htp, s7, x3.trans s7, (es 25 (by omega)).trans v8, (es 27 (by omega)).trans v9, by rw [x18, es 37 (by omega)]; exact v10, fun hk => (v11 (by rw [← es 37 (by omega)]; exact hk)).cg (e 58 (by omega))⟩
theorem tyT_lo {T : Nat → Int32} {w : Int64} {tp m j : Nat} : ∀ k, j < tp → tyT T w tp m k j = T j
  | 0, h => rfl
  | k + 1, h => by rw [tyT, pk_un (by omega)]; exact tyT_lo k h
theorem tyT_hi {T : Nat → Int32} {w : Int64} {tp m j : Nat} : ∀ k, tp ≤ j → j < tp + k → tyT T w tp m k j = (chL w (nI (m - 1 - (j - tp)))).toInt32
  | 0, h1, h2 => by omega
  | k + 1, h1, h2 => by
    rw [tyT]
    by_cases e : j = tp + k
    · subst e; rw [pk_us, Nat.add_sub_cancel_left]
    · rw [pk_un e]; exact tyT_hi k h1 (by omega)
theorem okT_ty {T : Nat → Int32} {w : Int64} {tp m : Nat} (ot : okT T tp) (hb : ¬ tyB w m 0 = 0) : okT (tyT T w tp m m) (tp + m) := by
  intro j hj
  by_cases c : j < tp
  · rw [tyT_lo m c]; exact ot j c
  · rw [tyT_hi m (by omega) hj]
    have h1 : ¬ b2i (inL (chL w (nI (m - 1 - (j - tp)))) 32 126) = 0 := fun q => hb (tyB_0 q m 0 (by omega) (by omega))
    rw [← ch_in] at h1
    obtain ⟨z, z1, z2, z3⟩ := inI_nat (lo := 32) (hi := 126) (by omega) (by omega) (b2i_1.mp h1)
    exact ⟨z, z1, by omega, z3⟩
theorem typ_ok {s : Nat → Int32} {F : Nat → Nat → Int32} {np nd tp : Nat} (vd : VD F np nd) (ot : okT (F 40) tp) (htp : tp ≤ 60) (h7 : s 7 = nI tp) (w : Int64) (nn : Int32) : ∃ tp', (typP s F tp w nn).2.1 7 = nI tp' ∧ tp' ≤ 60 ∧ okT ((typP s F tp w nn).2.2 40) tp' ∧ VD (typP s F tp w nn).2.2 np nd ∧ (∀ k, ¬ (34 ≤ k ∧ k ≤ 40) → (typP s F tp w nn).2.2 k = F k) ∧ ∀ j, ¬ j = 7 → (typP s F tp w nn).2.1 j = s j := by
  have same : ∀ x : Int32, ∃ tp', ((x, s, F) : OR).2.1 7 = nI tp' ∧ tp' ≤ 60 ∧ okT (((x, s, F) : OR).2.2 40) tp' ∧ VD ((x, s, F) : OR).2.2 np nd ∧ (∀ k, ¬ (34 ≤ k ∧ k ≤ 40) → ((x, s, F) : OR).2.2 k = F k) ∧ ∀ j, ¬ j = 7 → ((x, s, F) : OR).2.1 j = s j := fun _ => ⟨tp, h7, htp, ot, vd, fun _ _ => rfl, fun _ _ => rfl⟩
  unfold typP
  by_cases c1 : ¬ b2i (inL nn.toInt64 1 8) = 0
  · rw [if_pos c1]
    by_cases c2 : tyB w nn.toNatClampNeg 0 = 0
    · rw [if_pos c2]; exact same _
    rw [if_neg c2]
    by_cases c3 : nI tp + nn ≤ 60
    · rw [if_pos c3]
      obtain ⟨m, -, hm, rfl⟩ := in_nat (lo := 1) (hi := 8) (by omega) (by omega) c1
      rw [nI_clamp (n := m) (by omega)] at c2 ⊢
      have h60 : tp + m ≤ 60 := by
        rw [nI_add] at c3
        have := Int32.le_iff_toInt_le.mp c3
        rw [nI_toInt (by omega)] at this
        have e : (60 : Int32).toInt = 60 := by decide
        omega
      exact ⟨tp + m, (show upd s 7 (nI (tp + m)) 7 = _ from pk_us), h60, okT_ty ot c2, vd.cg (fun k hk => va_up_ne _ _ (by omega)), fun k hk => va_up_ne _ _ (by omega), fun j hj => pk_un hj⟩
    · rw [if_neg c3]; exact same _
  · rw [if_neg c1]; exact same _
theorem cpI_all {g mv : Nat → Int32} {b N : Nat} {P : Int32 → Prop} : ∀ k, (∀ j, j < N → P (g j)) → (∀ j, j < k → P (mv j)) → ∀ j, j < N → P (cpI g mv b k j)
  | 0, h1, _ => h1
  | k + 1, h1, h2 => by
    rw [cpI]
    exact upd_all (cpI_all k h1 (fun j hj => h2 j (by omega))) (h2 k (by omega))
theorem VD.sea {F : Nat → Nat → Int32} {np nd b : Nat} {rd : Nat → Int32} (v : VD F np nd) (h : ∀ j, j < 10 → ∃ z, z ≤ 8 ∧ rd j = nI z) : VD (va_up F 37 (cpI (F 37) rd b 10)) np nd := by
  obtain ⟨v1, ⟨o1, o2, o3, o4⟩, ⟨b1, b2, b3⟩, v4, v5⟩ := v
  exact ⟨v1, ⟨o1, o2, cpI_all (P := fun x => ∃ u, u ≤ 8 ∧ x = nI u) 10 o3 h, o4⟩, ⟨cpI_all (P := fun x => fits .byte (.int x) = true) 10 b1 (fun j hj => by
    obtain ⟨z, hz, e⟩ := h j hj
    rw [e]
    exact fits_s z (by omega)), b2, b3⟩, v4, v5⟩
theorem sea_ok {s : Nat → Int32} {F : Nat → Nat → Int32} {np nd tp : Nat} (vd : VD F np nd) (ot : okT (F 40) tp) (htp : tp ≤ 60) (h7 : s 7 = nI tp) (se ro : Int32) : ∃ tp', (seaP s F tp se ro).2.1 7 = nI tp' ∧ tp' ≤ 60 ∧ okT ((seaP s F tp se ro).2.2 40) tp' ∧ VD (seaP s F tp se ro).2.2 np nd ∧ (∀ k, ¬ (34 ≤ k ∧ k ≤ 40) → (seaP s F tp se ro).2.2 k = F k) ∧ ∀ j, ¬ j = 7 → (seaP s F tp se ro).2.1 j = s j := by
  have same : ∀ x : Int32, ∃ tp', ((x, s, F) : OR).2.1 7 = nI tp' ∧ tp' ≤ 60 ∧ okT (((x, s, F) : OR).2.2 40) tp' ∧ VD ((x, s, F) : OR).2.2 np nd ∧ (∀ k, ¬ (34 ≤ k ∧ k ≤ 40) → ((x, s, F) : OR).2.2 k = F k) ∧ ∀ j, ¬ j = 7 → ((x, s, F) : OR).2.1 j = s j := fun _ => ⟨tp, h7, htp, ot, vd, fun _ _ => rfl, fun _ _ => rfl⟩
  have fail : ∀ x : Int32, ∃ tp', ((x, upd s 7 0, F) : OR).2.1 7 = nI tp' ∧ tp' ≤ 60 ∧ okT (((x, upd s 7 0, F) : OR).2.2 40) tp' ∧ VD ((x, upd s 7 0, F) : OR).2.2 np nd ∧ (∀ k, ¬ (34 ≤ k ∧ k ≤ 40) → ((x, upd s 7 0, F) : OR).2.2 k = F k) ∧ ∀ j, ¬ j = 7 → ((x, upd s 7 0, F) : OR).2.1 j = s j := fun _ => ⟨0, rfl, by omega, fun j hj => by omega, vd, fun _ _ => rfl, fun j hj => pk_un hj⟩
  unfold seaP
  by_cases c1 : b2i (inL se.toInt64 0 1) = 0
  · rw [if_pos c1]; exact same _
  rw [if_neg c1]
  by_cases c2 : ¬ b2i (inL ro.toInt64 0 9) = 0
  · rw [if_pos c2]
    unfold seaE
    by_cases c3 : ¬ (seS (F 40) tp (F 43) 10).2.1 = 0
    · rw [if_pos c3]; exact fail _
    rw [if_neg c3]
    by_cases c4 : hrC (F 40) tp (hrN (F 40) tp (seS (F 40) tp (F 43) 10).1) = 0
    · rw [if_pos c4]
      exact ⟨0, rfl, by omega, fun j hj => by omega, vd.sea (seS_sc 10).2, fun k hk => va_up_ne _ _ (by omega), fun j hj => pk_un hj⟩
    · rw [if_neg c4]; exact fail _
  · rw [if_neg c2]; exact same _
theorem nmL_n {T : Nat → Int32} : ∀ f b k, b ≤ 9999 → ∃ b', b' ≤ 9999 ∧ (nmL T f (nI b) k).1 = nI b'
  | 0, b, k, hb => ⟨b, hb, rfl⟩
  | f + 1, b, k, hb => by
    rw [nmL]
    by_cases c : b2i (inL (T k).toInt64 48 57) = 0
    · rw [if_pos c]; exact ⟨b, hb, rfl⟩
    · rw [if_neg c]
      obtain ⟨d, d1, d2, e⟩ := in_nat (lo := 48) (hi := 57) (by omega) (by omega) c
      rw [e]
      unfold nmV
      by_cases q : nI b ≤ 999
      · rw [if_pos q]
        have hb9 : b ≤ 999 := by
          have := Int32.le_iff_toInt_le.mp q
          rw [nI_toInt (by omega)] at this
          have e2 : (999 : Int32).toInt = 999 := by decide
          omega
        rw [show (10 : Int32) * nI b + nI d - 48 = nI (10 * b + (d - 48)) from by
          rw [show (10 : Int32) = nI 10 from rfl, pk_mul, nI_add, show (48 : Int32) = nI 48 from rfl, show 10 * b + d = (10 * b + (d - 48)) + 48 by omega]; exact nI_sub2 _ _]
        exact nmL_n f _ (k + 1) (by omega)
      · rw [if_neg q]; exact nmL_n f b (k + 1) hb
def okF (x : Int32) : Prop := x = -1 ∨ ∃ j, j ≤ 40 ∧ x = nI j
theorem nmR_v {T : Nat → Int32} {tp a : Nat} {wr : Int32} (h : (nmR T tp a wr).2.2 = 0) : okF (nmR T tp a wr).1 := by
  unfold nmR at h ⊢
  by_cases c1 : ¬ wr = 0
  · rw [if_pos c1] at h; exact absurd h (show ¬ (1 : Int32) = 0 by decide)
  rw [if_neg c1] at h ⊢
  by_cases c2 : ¬ hrC T tp (hrN T tp a) = 63
  · rw [if_pos c2] at h ⊢
    by_cases c3 : ¬ b2i (inL (hrC T tp (hrN T tp a)).toInt64 48 57) = 0
    · rw [if_pos c3] at h ⊢
      obtain ⟨b, hb, e⟩ := nmL_n (T := T) (tp - hrN T tp a) 0 (hrN T tp a) (by omega)
      replace e : (nmL T (tp - hrN T tp a) 0 (hrN T tp a)).1 = nI b := e
      unfold nmE at h ⊢
      by_cases c4 : (nmL T (tp - hrN T tp a) 0 (hrN T tp a)).1 ≤ 40
      · rw [if_pos c4]
        rw [e] at c4 ⊢
        have := Int32.le_iff_toInt_le.mp c4
        rw [nI_toInt (by omega)] at this
        have e2 : (40 : Int32).toInt = 40 := by decide
        exact Or.inr ⟨b, by omega, rfl⟩
      · rw [if_neg c4] at h; exact absurd h (show ¬ (1 : Int32) = 0 by decide)
    · rw [if_neg c3] at h; exact absurd h (show ¬ (1 : Int32) = 0 by decide)
  · rw [if_neg c2]; exact Or.inl rfl
theorem rgQ_v {T : Nat → Int32} {tp lo a : Nat} (h : (rgQ T tp lo a).2.2 = 0) : okF (rgQ T tp lo a).1 := by
  unfold rgQ at h ⊢
  exact nmR_v h
theorem rgR_v {T : Nat → Int32} {tp : Nat} {P : Int32 → Prop} (hP : ∀ x, okF x → P x) : ∀ u k lo a f g, (∀ j, j < 7 → P (f j)) → (rgR T tp u k lo a f g).2.1 = 0 → ∀ j, j < 7 → P ((rgR T tp u k lo a f g).2.2.2.1 j) := by
  intro u
  induction u with
  | zero => ?z
  | succ u ih => ?s
  case' z =>
    intro k lo a f g hf
    rw [rgR.eq_1]
  case' s =>
    intro k lo a f g hf
    rw [rgR.eq_2]
  all_goals
    unfold rgS
    by_cases c1 : (rgN T tp lo a).2.2 = 0
    · rw [if_neg (not_not_intro c1)]
      by_cases c2 : hrC T tp (rgA T tp lo a) = 58
      · rw [if_neg (not_not_intro c2)]
        by_cases c3 : (rgQ T tp lo a).2.2 = 0
        · have hq : P (rgQ T tp lo a).1 := hP _ (rgQ_v c3)
          rw [if_neg (not_not_intro c3)]
          by_cases c4 : 6 ≤ nI (k + 1)
          · rw [if_pos c4]; intro _; dsimp only; exact upd_all hf hq
          · rw [if_neg c4]
            by_cases c5 : hrC T tp (hrN T tp (rgE T tp lo a)) = 59
            · rw [if_neg (not_not_intro c5)]
              first
                | exact fun _ => hf
                | exact fun h => ih _ _ _ _ _ (upd_all hf hq) h
            · rw [if_pos c5]; intro _; dsimp only; exact upd_all hf hq
        · rw [if_pos c3]; intro h; dsimp only at h; exact absurd h c3
      · rw [if_pos c2]; intro h; dsimp only at h; exact absurd h (show ¬ (1 : Int32) = 0 by decide)
    · rw [if_pos c1]; intro h; dsimp only at h; exact absurd h (show ¬ (1 : Int32) = 0 by decide)
theorem wbI_all {g f : Nat → Int32} {P : Int32 → Prop} : ∀ k, k < 7 → (∀ j, j < 7 → P (g j)) → (∀ j, j < 7 → P (f j)) → ∀ j, j < 7 → P (wbI g f k j)
  | 0, _, h1, _ => h1
  | k + 1, hk, h1, h2 => by
    rw [wbI]
    exact upd_all (wbI_all k (by omega) h1 h2) (h2 (k + 1) hk)
theorem VD.rgs {F : Nat → Nat → Int32} {np nd : Nat} {f g : Nat → Int32} (v : VD F np nd) (h : ∀ j, j < 7 → (f j < 0 ∨ ∃ z, z ≤ 100 ∧ f j = nI z) ∧ (f j < 0 → f j = -1)) : VD (va_up (va_up F 35 f) 36 g) np nd := by
  obtain ⟨⟨a, b, H, T, S, U, gl, wd, w1, w2, w3, w4, w5, w6, w7, w8, w9, w10, w11, w12, w13, w14, w15, w16, w17, w18⟩, v2, v3, v4, v5⟩ := v
  exact ⟨⟨a, b, H, T, S, U, gl, wd, w1, w2, w3, w4, w5, w6, w7, w8, w9, w10, w11, w12, w13, w14, w15, w16, w17, fun j hj => (h j hj).1⟩, v2, v3, fun j hj => (h j hj).2, v5⟩
def okG (x : Int32) : Prop := (x < 0 ∨ ∃ z, z ≤ 100 ∧ x = nI z) ∧ (x < 0 → x = -1)
theorem okG_F {x : Int32} (hx : okF x) : okG x := by
  rcases hx with rfl | ⟨j, hj, rfl⟩
  · exact ⟨Or.inl (by decide), fun _ => rfl⟩
  · exact ⟨Or.inr ⟨j, by omega, rfl⟩, fun q => absurd q (Int32.not_lt.mpr (nI_nn (by omega)))⟩
theorem rngsZ_v {F : Nat → Nat → Int32} {tp : Nat} (h0 : ∀ j, j < 7 → okG (F 35 j)) (h : (rngsZ F tp).2.1 = 0) : ∀ j, j < 7 → okG ((rngsZ F tp).2.2.2.1 j) := by
  unfold rngsZ at h ⊢
  exact rgR_v (P := okG) (fun x hx => okG_F hx) 5 0 0 0 (cpI (F 41) (F 35) 0 7) (cpI (F 42) (F 36) 0 7) (fun j hj => by rw [cpI7 7 j hj]; exact h0 j hj) h
theorem rgs_ok {s : Nat → Int32} {F : Nat → Nat → Int32} {np nd tp : Nat} (vd : VD F np nd) (ot : okT (F 40) tp) (htp : tp ≤ 60) (h7 : s 7 = nI tp) : ∃ tp', (rngsP s F tp).2.1 7 = nI tp' ∧ tp' ≤ 60 ∧ okT ((rngsP s F tp).2.2 40) tp' ∧ VD (rngsP s F tp).2.2 np nd ∧ (∀ k, ¬ (34 ≤ k ∧ k ≤ 40) → (rngsP s F tp).2.2 k = F k) ∧ ∀ j, ¬ j = 7 → (rngsP s F tp).2.1 j = s j := by
  have fail : ∀ x : Int32, ∃ tp', ((x, upd s 7 0, F) : OR).2.1 7 = nI tp' ∧ tp' ≤ 60 ∧ okT (((x, upd s 7 0, F) : OR).2.2 40) tp' ∧ VD ((x, upd s 7 0, F) : OR).2.2 np nd ∧ (∀ k, ¬ (34 ≤ k ∧ k ≤ 40) → ((x, upd s 7 0, F) : OR).2.2 k = F k) ∧ ∀ j, ¬ j = 7 → ((x, upd s 7 0, F) : OR).2.1 j = s j := fun _ => ⟨0, rfl, by omega, fun j hj => by omega, vd, fun _ _ => rfl, fun j hj => pk_un hj⟩
  unfold rngsP
  obtain ⟨Z, hZ⟩ : ∃ Z, Z = rngsZ F tp := ⟨_, rfl⟩
  rw [← hZ]
  unfold rngsE
  by_cases c3 : ¬ Z.2.1 = 0
  · rw [if_pos c3]; exact fail _
  rw [if_neg c3]
  by_cases c4 : hrC (F 40) tp (hrN (F 40) tp Z.1) = 0
  · rw [if_pos c4]
    have h0 : ∀ j, j < 7 → okG (F 35 j) := by
      obtain ⟨⟨a, b, H, T, S, U, gl, wd, wk⟩, -, -, v4, -⟩ := vd
      exact fun j hj => ⟨wk.2.2.2.2.2.2.2.2.2.2.2.2.2.2.2.2.2 j hj, v4 j hj⟩
    have hz2 := rngsZ_v h0 (by rw [← hZ]; exact Decidable.not_not.mp c3)
    rw [← hZ] at hz2
    refine ⟨0, rfl, by omega, fun j hj => by omega, vd.rgs (fun j hj => ?_), fun k hk => (va_up_ne _ _ (by omega)).trans (va_up_ne _ _ (by omega)), fun j hj => pk_un hj⟩
    exact wbI_all (g := F 35) (f := Z.2.2.2.1) (P := okG) 6 (by omega) h0 hz2 j hj
  · rw [if_neg c4]; exact fail _
section OPT3
variable {l : Launch} {G : GW} {h : AH} {n : Nat}
theorem op_type (wo : WO h n) (lw : Int64) (nn : Int32) : OPP l G yX0_type yX4_type cX0_type cX4_type 5 5 (some .int) 2 2 0 0 [.long lw, .int nn] h n := by
  obtain ⟨sx, s, al, F, FL, Fk, np, nd, npk, ndk, e1, e2, e3, e4, tp, rr, w, mc, v⟩ := wo
  have w' := w
  obtain ⟨w0, x1, xt, ⟨m3, w3⟩, ⟨m4, w4⟩, w5, w6, sc, -, -, -, dj, sh, dd, dz⟩ := w'
  have v' := v
  obtain ⟨vd, vk, vs, vt, vp, h7, hx3, h25, h27, hx18, -⟩ := v'
  have vd' := vd
  obtain ⟨⟨a, b, H, T, S, U, g, wd, wk⟩, ok, by_, hR1, h4, h5⟩ := vd'
  have mk := mkc_of wk ok h25 h27 h4 h5
  obtain ⟨p5, w5⟩ := w5
  obtain ⟨tp', o1, o2, o3, o4, o5, o6⟩ := typ_ok (s := s) vd vt vp h7 lw nn
  refine OPP.t (p := typP s F tp lw nn) mc (xc_type (sm := s) x1 w5 w6 xt sc hx3 h7 vp lw nn) (fun r h1 n1 q => ?_) (fun h1 n1 mc1 => mc_type mc1 h7 vp lw nn)
  obtain ⟨q1, q2, q3, sx', q4, q5, q6⟩ := w.y q o5
  subst q2
  exact ⟨q1, fun k hk => q3 k (by omega), sx', Fk, np, nd, npk, ndk, e1, e2, e3, e4, tp', rr, q6, v.y o4 o5 o3 o2 o1 q4 q5 o6⟩
theorem op_sea (wo : WO h n) (se ro : Int32) : OPW l G yX0_sea yX4_sea cX0_sea cX4_sea 5 5 (some .int) 4 3 0 0 [.int se, .int ro] h n := by
  obtain ⟨sx, s, al, F, FL, Fk, np, nd, npk, ndk, e1, e2, e3, e4, tp, rr, w, mc, v⟩ := wo
  have w' := w
  obtain ⟨w0, x1, xt, ⟨m3, w3⟩, ⟨m4, w4⟩, w5, w6, sc, -, -, -, dj, sh, dd, dz⟩ := w'
  have v' := v
  obtain ⟨vd, vk, vs, vt, vp, h7, hx3, h25, h27, hx18, -⟩ := v'
  have vd' := vd
  obtain ⟨⟨a, b, H, T, S, U, g, wd, wk⟩, ok, by_, hR1, h4, h5⟩ := vd'
  have mk := mkc_of wk ok h25 h27 h4 h5
  obtain ⟨p5, w5⟩ := w5
  obtain ⟨tp', o1, o2, o3, o4, o5, o6⟩ := sea_ok (s := s) vd vt vp h7 se ro
  refine OPW.t (p := seaP s F tp se ro) mc (xc_sea (sm := s) x1 w5 w6 xt sc hx3 h7 vp vt se ro) (fun r h1 n1 q => ?_) (fun h1 n1 mc1 => mc_sea mc1 h7 vp se ro)
  obtain ⟨q1, q2, q3, sx', q4, q5, q6⟩ := w.y q o5
  subst q2
  exact ⟨q1, fun k hk => q3 k (by omega), sx', Fk, np, nd, npk, ndk, e1, e2, e3, e4, tp', rr, q6, v.y o4 o5 o3 o2 o1 q4 q5 o6⟩
theorem op_rings (wo : WO h n) : OPW l G yX0_rings yX4_rings cX0_rings cX4_rings 3 6 (some .int) 4 3 0 0 [] h n := by
  obtain ⟨sx, s, al, F, FL, Fk, np, nd, npk, ndk, e1, e2, e3, e4, tp, rr, w, mc, v⟩ := wo
  have w' := w
  obtain ⟨w0, x1, xt, ⟨m3, w3⟩, ⟨m4, w4⟩, w5, w6, sc, -, -, -, dj, sh, dd, dz⟩ := w'
  have v' := v
  obtain ⟨vd, vk, vs, vt, vp, h7, hx3, h25, h27, hx18, -⟩ := v'
  have vd' := vd
  obtain ⟨⟨a, b, H, T, S, U, g, wd, wk⟩, ok, by_, hR1, h4, h5⟩ := vd'
  have mk := mkc_of wk ok h25 h27 h4 h5
  obtain ⟨p5, w5⟩ := w5
  obtain ⟨tp', o1, o2, o3, o4, o5, o6⟩ := rgs_ok (s := s) vd vt vp h7
  refine OPW.t (p := rngsP s F tp) mc (xc_rings (sm := s) x1 w5 w6 xt sc hx3 h7 vp vt) (fun r h1 n1 q => ?_) (fun h1 n1 mc1 => mc_rings mc1 h7 vp)
  obtain ⟨q1, q2, q3, sx', q4, q5, q6⟩ := w.y q o5
  subst q2
  exact ⟨q1, fun k hk => q3 k (by omega), sx', Fk, np, nd, npk, ndk, e1, e2, e3, e4, tp', rr, q6, v.y o4 o5 o3 o2 o1 q4 q5 o6⟩
end OPT3
