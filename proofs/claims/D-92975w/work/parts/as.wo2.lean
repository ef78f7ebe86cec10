/-! the queries, as pairs of calls (printed by gen/wo2.py) -/
set_option maxRecDepth 100000
def enX (F : Nat → Nat → Int32) (nr nt nf : Int32) (a b H T S U g : Nat) : Nat → Nat := waysN H g (allW F nr nt nf a b H T S U) (fun _ => 0)
theorem enX_ok {F : Nat → Nat → Int32} {a b H T S U g wd : Nat} (wk : WKc F a b H T S U g wd) (nr nt nf : Int32) : (∀ j, j < 100 → waysS H g (allW F nr nt nf a b H T S U) (fun _ => 0) j = lN (enX F nr nt nf a b H T S U g j) ∧ enX F nr nt nf a b H T S U g j < 2 ^ 30) ∧ foS (enX F nr nt nf a b H T S U g) 100 < 2 ^ 30 := by
  obtain ⟨w1, w2, w3, w4, w5, w6, w7, w8, w9, w10, w11, w12, w13, w14, w15, w16, w17, w18⟩ := wk
  exact ⟨fun j _ => ways_num w4 w6 w7 w9 w11 w15 j, ways_all w4 w6 w7 w9 w11 w15⟩
theorem mkc_of {s : Nat → Int32} {F : Nat → Nat → Int32} {a b H T S U g wd np nd : Nat} (wk : WKc F a b H T S U g wd) (ok : OKP F np nd) (h25 : s 25 = nI np) (h27 : s 27 = nI nd) (h4 : np ≤ 4) (h5 : nd ≤ 4) : MKc s F a H g np nd := by
  obtain ⟨w1, w2, w3, w4, w5, w6, w7, w8, w9, w10, w11, w12, w13, w14, w15, w16, w17, w18⟩ := wk
  exact ⟨w1, w2, ⟨b, w4, w3⟩, w5, w6, w7, w14, w15, h25, h4, h27, h5, fun q hq => by
    obtain ⟨c0, N, c1, c2, c3, c4⟩ := ok.1 q hq
    exact ⟨N, c2, c4⟩⟩
theorem sum0 {F : Nat → Nat → Int32} {a b H T S U g wd np nd : Nat} (wk : WKc F a b H T S U g wd) (ok : OKP F np nd) (h4 : np ≤ 4) (h5 : nd ≤ 4) : SumN F 0 0 H g np nd (allW F 0 0 0 a b H T S U) (sN F (fun _ => false) false (enX F 0 0 0 a b H T S U g) np nd) (foS (sN F (fun _ => false) false (enX F 0 0 0 a b H T S U g) np nd) 100) :=
  SumN_of ok h4 h5 (fun p hp => ⟨fun e => absurd e (bit_0 p (by omega)), fun e => by cases e⟩) ⟨fun _ => rfl, fun _ => rfl⟩ (fun j hj => ((enX_ok wk 0 0 0).1 j hj).1) (enX_ok wk 0 0 0).2
theorem sumC {F : Nat → Nat → Int32} {a b H T S U g wd np nd : Nat} (wk : WKc F a b H T S U g wd) (ok : OKP F np nd) (h4 : np ≤ 4) (h5 : nd ≤ 4) (c : Int32) : SumN F (fP c) (fD c) H g np nd (allW F (fR c) (fT c) (fF c) a b H T S U) (swX F (fun c => enX F (fR c) (fT c) (fF c) a b H T S U g) np nd c) (awX F (fun c => enX F (fR c) (fT c) (fF c) a b H T S U g) np nd c) :=
  SumN_of ok h4 h5 (fun p hp => fP_bit (by omega)) fD_bit (fun j hj => ((enX_ok wk _ _ _).1 j hj).1) (enX_ok wk _ _ _).2
theorem bam_of {s : Nat → Int32} {F : Nat → Nat → Int32} {a b H T S U g wd np nd : Nat} (wk : WKc F a b H T S U g wd) (ok : OKP F np nd) (h25 : s 25 = nI np) (h27 : s 27 = nI nd) (h4 : np ≤ 4) (h5 : nd ≤ 4) : BaM s F a H g np nd (fun nr nt nf => allW F nr nt nf a b H T S U) (sN F (fun _ => false) false (enX F 0 0 0 a b H T S U g) np nd) (foS (sN F (fun _ => false) false (enX F 0 0 0 a b H T S U g) np nd) 100) (swX F (fun c => enX F (fR c) (fT c) (fF c) a b H T S U g) np nd) (awX F (fun c => enX F (fR c) (fT c) (fF c) a b H T S U g) np nd) :=
  ⟨mkc_of wk ok h25 h27 h4 h5, fun nr nt nf R => wk_en wk R, sum0 wk ok h4 h5, sumC wk ok h4 h5⟩
theorem s2_of {F : Nat → Nat → Int32} {a b H T S U g wd np nd : Nat} (wk : WKc F a b H T S U g wd) (ok : OKP F np nd) (h4 : np ≤ 4) (f : Nat → Int32) {j : Nat} (hj : j < 100) : suF F 15 1 H g np nd (wyN f (F 36) 0 1 0 a T S U H 0 (rtN b)) j = lN (waysN H g (wyN f (F 36) 0 1 0 a T S U H 0 (rtN b)) (fun _ => 0) j) := by
  obtain ⟨w1, w2, w3, w4, w5, w6, w7, w8, w9, w10, w11, w12, w13, w14, w15, w16, w17, w18⟩ := wk
  obtain ⟨n1, n2⟩ := ways_num (F35 := f) (F36 := F 36) (nr := 0) (nt := 1) (nf := 0) (a := a) (U := U) (g := g) w4 w6 w7 w9 w11 w15 j
  unfold suF
  rw [sums_lo 100 j hj, n1, cell_eq (lp := fun _ => true) (ld := true) (EN := waysN H g (wyN f (F 36) 0 1 0 a T S U H 0 (rtN b)) (fun _ => 0)) ok n2 h4 (fun p hp => ⟨fun _ => rfl, fun _ => bit_15 p (by omega)⟩) ⟨fun e => absurd e (by decide), fun e => by cases e⟩]
  unfold sN
  rw [pN_t np (fun _ _ => rfl), dN_t, Nat.mul_one, Nat.mul_one]
section OPQ
variable {l : Launch} {G : GW} {h : AH} {n : Nat}
theorem op_far (wo : WO h n) (c : Int32) : OPP l G yX0_far yX4_far cX0_far cX4_far 2 2 (some .int) 2 2 0 0 [.int c] h n := by
  obtain ⟨sx, s, al, F, FL, Fk, np, nd, npk, ndk, e1, e2, e3, e4, tp, rr, w⟩ := wo
  have w' := w
  obtain ⟨⟨w0, x1, xt, ⟨m3, w3⟩, ⟨m4, w4⟩, w5, w6, sc, -, -, -, -, sh, -, -⟩, mc, ⟨⟨a, b, H, T, S, U, g, wd, wk⟩, ok, by_, hR1, h4, h5⟩, -, vs, vt, -, h7, -, h25, h27, -, -⟩ := w'
  have xr : XR F np nd h n := ⟨⟨sx, x1⟩, xt, w3.x, w4.x⟩
  obtain ⟨ce, x16⟩ := sc.2.2.2.1
  have mk := mkc_of wk ok h25 h27 h4 h5
  have hE0 : ∀ R, EnM (F 34) (F 35) (F 36) 0 0 0 a H (allW F 0 0 0 a b H T S U) 0 (begR (F 34 1) R) := fun R => wk_en wk R
  refine OPP.q w (xc_far x1 sc xr wk.1 wk.2.1 c) (fun sx' h1 n1 w1 => ?_)
  exact mc_far w1.2.1 mk c
theorem op_drift (wo : WO h n) (c mo hi : Int32) : OPP l G yX0_drift yX4_drift cX0_drift cX4_drift 4 4 (some .int) 4 4 0 0 [.int c, .int mo, .int hi] h n := by
  obtain ⟨sx, s, al, F, FL, Fk, np, nd, npk, ndk, e1, e2, e3, e4, tp, rr, w⟩ := wo
  have w' := w
  obtain ⟨⟨w0, x1, xt, ⟨m3, w3⟩, ⟨m4, w4⟩, w5, w6, sc, -, -, -, -, sh, -, -⟩, mc, ⟨⟨a, b, H, T, S, U, g, wd, wk⟩, ok, by_, hR1, h4, h5⟩, -, vs, vt, -, h7, -, h25, h27, -, -⟩ := w'
  have xr : XR F np nd h n := ⟨⟨sx, x1⟩, xt, w3.x, w4.x⟩
  obtain ⟨ce, x16⟩ := sc.2.2.2.1
  have mk := mkc_of wk ok h25 h27 h4 h5
  have hE0 : ∀ R, EnM (F 34) (F 35) (F 36) 0 0 0 a H (allW F 0 0 0 a b H T S U) 0 (begR (F 34 1) R) := fun R => wk_en wk R
  refine OPP.q w (xc_drift x1 sc xr ok c mo hi) (fun sx' h1 n1 w1 => ?_)
  exact mc_drift w1.2.1 c mo hi
theorem op_fits (wo : WO h n) (p c : Int32) : OPP l G yX0_fits yX4_fits cX0_fits cX4_fits 3 3 (some .int) 4 4 0 0 [.int p, .int c] h n := by
  obtain ⟨sx, s, al, F, FL, Fk, np, nd, npk, ndk, e1, e2, e3, e4, tp, rr, w⟩ := wo
  have w' := w
  obtain ⟨⟨w0, x1, xt, ⟨m3, w3⟩, ⟨m4, w4⟩, w5, w6, sc, -, -, -, -, sh, -, -⟩, mc, ⟨⟨a, b, H, T, S, U, g, wd, wk⟩, ok, by_, hR1, h4, h5⟩, -, vs, vt, -, h7, -, h25, h27, -, -⟩ := w'
  have xr : XR F np nd h n := ⟨⟨sx, x1⟩, xt, w3.x, w4.x⟩
  obtain ⟨ce, x16⟩ := sc.2.2.2.1
  have mk := mkc_of wk ok h25 h27 h4 h5
  have hE0 : ∀ R, EnM (F 34) (F 35) (F 36) 0 0 0 a H (allW F 0 0 0 a b H T S U) 0 (begR (F 34 1) R) := fun R => wk_en wk R
  refine OPP.q w (xc_fits x1 sc xr ok p c) (fun sx' h1 n1 w1 => ?_)
  exact mc_fits w1.2.1 mk p c
theorem op_ways (wo : WO h n) : OPP l G yX0_ways yX4_ways cX0_ways cX4_ways 1 2 (some .int) 33 4 1 2 [] h n := by
  obtain ⟨sx, s, al, F, FL, Fk, np, nd, npk, ndk, e1, e2, e3, e4, tp, rr, w⟩ := wo
  have w' := w
  obtain ⟨⟨w0, x1, xt, ⟨m3, w3⟩, ⟨m4, w4⟩, w5, w6, sc, -, -, -, -, sh, -, -⟩, mc, ⟨⟨a, b, H, T, S, U, g, wd, wk⟩, ok, by_, hR1, h4, h5⟩, -, vs, vt, -, h7, -, h25, h27, -, -⟩ := w'
  have xr : XR F np nd h n := ⟨⟨sx, x1⟩, xt, w3.x, w4.x⟩
  obtain ⟨ce, x16⟩ := sc.2.2.2.1
  have mk := mkc_of wk ok h25 h27 h4 h5
  have hE0 : ∀ R, EnM (F 34) (F 35) (F 36) 0 0 0 a H (allW F 0 0 0 a b H T S U) 0 (begR (F 34 1) R) := fun R => wk_en wk R
  refine OPP.q w (xc_ways w0 x1 x16 xt wk sc) (fun sx' h1 n1 w1 => ?_)
  exact mc_ways w1.2.1 mk hE0
theorem op_weight (wo : WO h n) : OPP l G yX0_weight yX4_weight cX0_weight cX4_weight 1 3 (some .long) 33 4 1 2 [] h n := by
  obtain ⟨sx, s, al, F, FL, Fk, np, nd, npk, ndk, e1, e2, e3, e4, tp, rr, w⟩ := wo
  have w' := w
  obtain ⟨⟨w0, x1, xt, ⟨m3, w3⟩, ⟨m4, w4⟩, w5, w6, sc, -, -, -, -, sh, -, -⟩, mc, ⟨⟨a, b, H, T, S, U, g, wd, wk⟩, ok, by_, hR1, h4, h5⟩, -, vs, vt, -, h7, -, h25, h27, -, -⟩ := w'
  have xr : XR F np nd h n := ⟨⟨sx, x1⟩, xt, w3.x, w4.x⟩
  obtain ⟨ce, x16⟩ := sc.2.2.2.1
  have mk := mkc_of wk ok h25 h27 h4 h5
  have hE0 : ∀ R, EnM (F 34) (F 35) (F 36) 0 0 0 a H (allW F 0 0 0 a b H T S U) 0 (begR (F 34 1) R) := fun R => wk_en wk R
  refine OPP.q w (xc_weight w0 x1 x16 xt wk sc) (fun sx' h1 n1 w1 => ?_)
  exact mc_weight w1.2.1 mk hE0
theorem op_way (wo : WO h n) (i hr : Int32) : OPP l G yX0_way yX4_way cX0_way cX4_way 4 3 (some .int) 33 5 2 12 [.int i, .int hr] h n := by
  obtain ⟨sx, s, al, F, FL, Fk, np, nd, npk, ndk, e1, e2, e3, e4, tp, rr, w⟩ := wo
  have w' := w
  obtain ⟨⟨w0, x1, xt, ⟨m3, w3⟩, ⟨m4, w4⟩, w5, w6, sc, -, -, -, -, sh, -, -⟩, mc, ⟨⟨a, b, H, T, S, U, g, wd, wk⟩, ok, by_, hR1, h4, h5⟩, -, vs, vt, -, h7, -, h25, h27, -, -⟩ := w'
  have xr : XR F np nd h n := ⟨⟨sx, x1⟩, xt, w3.x, w4.x⟩
  obtain ⟨ce, x16⟩ := sc.2.2.2.1
  have mk := mkc_of wk ok h25 h27 h4 h5
  have hE0 : ∀ R, EnM (F 34) (F 35) (F 36) 0 0 0 a H (allW F 0 0 0 a b H T S U) 0 (begR (F 34 1) R) := fun R => wk_en wk R
  refine OPP.q w (xc_way w0 x1 x16 xt wk sc i hr) (fun sx' h1 n1 w1 => ?_)
  exact mc_way w1.2.1 mk hE0 i hr
theorem op_may (wo : WO h n) (hh row : Int32) : OPP l G yX0_may yX4_may cX0_may cX4_may 6 4 (some .int) 33 4 2 102 [.int hh, .int row] h n := by
  obtain ⟨sx, s, al, F, FL, Fk, np, nd, npk, ndk, e1, e2, e3, e4, tp, rr, w⟩ := wo
  have w' := w
  obtain ⟨⟨w0, x1, xt, ⟨m3, w3⟩, ⟨m4, w4⟩, w5, w6, sc, -, -, -, -, sh, -, -⟩, mc, ⟨⟨a, b, H, T, S, U, g, wd, wk⟩, ok, by_, hR1, h4, h5⟩, -, vs, vt, -, h7, -, h25, h27, -, -⟩ := w'
  have xr : XR F np nd h n := ⟨⟨sx, x1⟩, xt, w3.x, w4.x⟩
  obtain ⟨ce, x16⟩ := sc.2.2.2.1
  have mk := mkc_of wk ok h25 h27 h4 h5
  have hE0 : ∀ R, EnM (F 34) (F 35) (F 36) 0 0 0 a H (allW F 0 0 0 a b H T S U) 0 (begR (F 34 1) R) := fun R => wk_en wk R
  refine OPP.q w (xc_may w0 x1 x16 xt wk sc hh row) (fun sx' h1 n1 w1 => ?_)
  exact mc_may w1.2.1 mk hE0 hh row
theorem op_odds (wo : WO h n) (c part : Int32) : OPP l G yX0_odds yX4_odds cX0_odds cX4_odds 5 3 (some .long) 34 6 2 101 [.int c, .int part] h n := by
  obtain ⟨sx, s, al, F, FL, Fk, np, nd, npk, ndk, e1, e2, e3, e4, tp, rr, w⟩ := wo
  have w' := w
  obtain ⟨⟨w0, x1, xt, ⟨m3, w3⟩, ⟨m4, w4⟩, w5, w6, sc, -, -, -, -, sh, -, -⟩, mc, ⟨⟨a, b, H, T, S, U, g, wd, wk⟩, ok, by_, hR1, h4, h5⟩, -, vs, vt, -, h7, -, h25, h27, -, -⟩ := w'
  have xr : XR F np nd h n := ⟨⟨sx, x1⟩, xt, w3.x, w4.x⟩
  obtain ⟨ce, x16⟩ := sc.2.2.2.1
  have mk := mkc_of wk ok h25 h27 h4 h5
  have hE0 : ∀ R, EnM (F 34) (F 35) (F 36) 0 0 0 a H (allW F 0 0 0 a b H T S U) 0 (begR (F 34 1) R) := fun R => wk_en wk R
  refine OPP.q w (xc_odds w0 x1 x16 sc xr wk ok (enX_ok wk 0 0 0).1 c part) (fun sx' h1 n1 w1 => ?_)
  exact mc_odds w1.2.1 mk hE0 (sum0 wk ok h4 h5) c part
theorem op_where (wo : WO h n) (row : Int32) : OPP l G yX0_where yX4_where cX0_where cX4_where 4 4 (some .int) 34 6 2 101 [.int row] h n := by
  obtain ⟨sx, s, al, F, FL, Fk, np, nd, npk, ndk, e1, e2, e3, e4, tp, rr, w⟩ := wo
  have w' := w
  obtain ⟨⟨w0, x1, xt, ⟨m3, w3⟩, ⟨m4, w4⟩, w5, w6, sc, -, -, -, -, sh, -, -⟩, mc, ⟨⟨a, b, H, T, S, U, g, wd, wk⟩, ok, by_, hR1, h4, h5⟩, -, vs, vt, -, h7, -, h25, h27, -, -⟩ := w'
  have xr : XR F np nd h n := ⟨⟨sx, x1⟩, xt, w3.x, w4.x⟩
  obtain ⟨ce, x16⟩ := sc.2.2.2.1
  have mk := mkc_of wk ok h25 h27 h4 h5
  have hE0 : ∀ R, EnM (F 34) (F 35) (F 36) 0 0 0 a H (allW F 0 0 0 a b H T S U) 0 (begR (F 34 1) R) := fun R => wk_en wk R
  refine OPP.q w (xc_where w0 x1 x16 sc xr wk ok (enX_ok wk 0 0 0).1 row) (fun sx' h1 n1 w1 => ?_)
  exact mc_where w1.2.1 mk hE0 (sum0 wk ok h4 h5) row
theorem op_count (wo : WO h n) (what : Int32) : OPP l G yX0_count yX4_count cX0_count cX4_count 4 4 (some .int) 34 6 2 101 [.int what] h n := by
  obtain ⟨sx, s, al, F, FL, Fk, np, nd, npk, ndk, e1, e2, e3, e4, tp, rr, w⟩ := wo
  have w' := w
  obtain ⟨⟨w0, x1, xt, ⟨m3, w3⟩, ⟨m4, w4⟩, w5, w6, sc, -, -, -, -, sh, -, -⟩, mc, ⟨⟨a, b, H, T, S, U, g, wd, wk⟩, ok, by_, hR1, h4, h5⟩, -, vs, vt, -, h7, -, h25, h27, -, -⟩ := w'
  have xr : XR F np nd h n := ⟨⟨sx, x1⟩, xt, w3.x, w4.x⟩
  obtain ⟨ce, x16⟩ := sc.2.2.2.1
  have mk := mkc_of wk ok h25 h27 h4 h5
  have hE0 : ∀ R, EnM (F 34) (F 35) (F 36) 0 0 0 a H (allW F 0 0 0 a b H T S U) 0 (begR (F 34 1) R) := fun R => wk_en wk R
  refine OPP.q w (xc_count w0 x1 x16 sc xr wk ok (enX_ok wk 0 0 0).1 what) (fun sx' h1 n1 w1 => ?_)
  exact mc_count w1.2.1 mk hE0 (sum0 wk ok h4 h5) what
theorem op_next (wo : WO h n) : OPP l G yX0_next yX4_next cX0_next cX4_next 3 5 (some .int) 34 6 2 101 [] h n := by
  obtain ⟨sx, s, al, F, FL, Fk, np, nd, npk, ndk, e1, e2, e3, e4, tp, rr, w⟩ := wo
  have w' := w
  obtain ⟨⟨w0, x1, xt, ⟨m3, w3⟩, ⟨m4, w4⟩, w5, w6, sc, -, -, -, -, sh, -, -⟩, mc, ⟨⟨a, b, H, T, S, U, g, wd, wk⟩, ok, by_, hR1, h4, h5⟩, -, vs, vt, -, h7, -, h25, h27, -, -⟩ := w'
  have xr : XR F np nd h n := ⟨⟨sx, x1⟩, xt, w3.x, w4.x⟩
  obtain ⟨ce, x16⟩ := sc.2.2.2.1
  have mk := mkc_of wk ok h25 h27 h4 h5
  have hE0 : ∀ R, EnM (F 34) (F 35) (F 36) 0 0 0 a H (allW F 0 0 0 a b H T S U) 0 (begR (F 34 1) R) := fun R => wk_en wk R
  refine OPP.q w (xc_next w0 x1 x16 sc xr wk ok (enX_ok wk 0 0 0).1 ) (fun sx' h1 n1 w1 => ?_)
  exact mc_next w1.2.1 mk hE0 (sum0 wk ok h4 h5) 
theorem op_should (wo : WO h n) (c mo hi part : Int32) : OPP l G yX0_should yX4_should cX0_should cX4_should 10 8 (some .long) 34 6 2 101 [.int c, .int mo, .int hi, .int part] h n := by
  obtain ⟨sx, s, al, F, FL, Fk, np, nd, npk, ndk, e1, e2, e3, e4, tp, rr, w⟩ := wo
  have w' := w
  obtain ⟨⟨w0, x1, xt, ⟨m3, w3⟩, ⟨m4, w4⟩, w5, w6, sc, -, -, -, -, sh, -, -⟩, mc, ⟨⟨a, b, H, T, S, U, g, wd, wk⟩, ok, by_, hR1, h4, h5⟩, -, vs, vt, -, h7, -, h25, h27, -, -⟩ := w'
  have xr : XR F np nd h n := ⟨⟨sx, x1⟩, xt, w3.x, w4.x⟩
  obtain ⟨ce, x16⟩ := sc.2.2.2.1
  have mk := mkc_of wk ok h25 h27 h4 h5
  have hE0 : ∀ R, EnM (F 34) (F 35) (F 36) 0 0 0 a H (allW F 0 0 0 a b H T S U) 0 (begR (F 34 1) R) := fun R => wk_en wk R
  refine OPP.q w (xc_should w0 x1 x16 sc xr wk ok (enX_ok wk 0 0 0).1 c mo hi part) (fun sx' h1 n1 w1 => ?_)
  exact mc_should w1.2.1 mk hE0 (sum0 wk ok h4 h5) c mo hi part
theorem op_moves (wo : WO h n) (c : Int32) : OPP l G yX0_moves yX4_moves cX0_moves cX4_moves 2 2 (some .int) 35 7 4 202 [.int c] h n := by
  obtain ⟨sx, s, al, F, FL, Fk, np, nd, npk, ndk, e1, e2, e3, e4, tp, rr, w⟩ := wo
  have w' := w
  obtain ⟨⟨w0, x1, xt, ⟨m3, w3⟩, ⟨m4, w4⟩, w5, w6, sc, -, -, -, -, sh, -, -⟩, mc, ⟨⟨a, b, H, T, S, U, g, wd, wk⟩, ok, by_, hR1, h4, h5⟩, -, vs, vt, -, h7, -, h25, h27, -, -⟩ := w'
  have xr : XR F np nd h n := ⟨⟨sx, x1⟩, xt, w3.x, w4.x⟩
  obtain ⟨ce, x16⟩ := sc.2.2.2.1
  have mk := mkc_of wk ok h25 h27 h4 h5
  have hE0 : ∀ R, EnM (F 34) (F 35) (F 36) 0 0 0 a H (allW F 0 0 0 a b H T S U) 0 (begR (F 34 1) R) := fun R => wk_en wk R
  refine OPP.q w (xc_moves w0 x1 x16 sc xr wk ok (fun c => (enX_ok wk (fR c) (fT c) (fF c)).1) (enX_ok wk 0 0 0).1 c) (fun sx' h1 n1 w1 => ?_)
  rw [← h25]
  exact mc_moves w1.2.1 (bam_of wk ok h25 h27 h4 h5) c
theorem op_most (wo : WO h n) : OPP l G yX0_most yX4_most cX0_most cX4_most 7 5 (some .int) 35 7 28 1414 [] h n := by
  obtain ⟨sx, s, al, F, FL, Fk, np, nd, npk, ndk, e1, e2, e3, e4, tp, rr, w⟩ := wo
  have w' := w
  obtain ⟨⟨w0, x1, xt, ⟨m3, w3⟩, ⟨m4, w4⟩, w5, w6, sc, -, -, -, -, sh, -, -⟩, mc, ⟨⟨a, b, H, T, S, U, g, wd, wk⟩, ok, by_, hR1, h4, h5⟩, -, vs, vt, -, h7, -, h25, h27, -, -⟩ := w'
  have xr : XR F np nd h n := ⟨⟨sx, x1⟩, xt, w3.x, w4.x⟩
  obtain ⟨ce, x16⟩ := sc.2.2.2.1
  have mk := mkc_of wk ok h25 h27 h4 h5
  have hE0 : ∀ R, EnM (F 34) (F 35) (F 36) 0 0 0 a H (allW F 0 0 0 a b H T S U) 0 (begR (F 34 1) R) := fun R => wk_en wk R
  refine OPP.q w (xc_most w0 x1 x16 sc xr wk ok (fun c => (enX_ok wk (fR c) (fT c) (fF c)).1) (enX_ok wk 0 0 0).1) (fun sx' h1 n1 w1 => ?_)
  rw [← h25]
  exact mc_most w1.2.1 (bam_of wk ok h25 h27 h4 h5)
theorem op_held (wo : WO h n) (c lane i : Int32) : OPP l G yX0_held yX4_held cX0_held cX4_held 5 8 (some .int) 35 6 4 110 [.int c, .int lane, .int i] h n := by
  obtain ⟨sx, s, al, F, FL, Fk, np, nd, npk, ndk, e1, e2, e3, e4, tp, rr, w⟩ := wo
  have w' := w
  obtain ⟨⟨w0, x1, xt, ⟨m3, w3⟩, ⟨m4, w4⟩, w5, w6, sc, -, -, -, -, sh, -, -⟩, mc, ⟨⟨a, b, H, T, S, U, g, wd, wk⟩, ok, by_, hR1, h4, h5⟩, -, vs, vt, -, h7, -, h25, h27, -, -⟩ := w'
  have xr : XR F np nd h n := ⟨⟨sx, x1⟩, xt, w3.x, w4.x⟩
  obtain ⟨ce, x16⟩ := sc.2.2.2.1
  have mk := mkc_of wk ok h25 h27 h4 h5
  have hE0 : ∀ R, EnM (F 34) (F 35) (F 36) 0 0 0 a H (allW F 0 0 0 a b H T S U) 0 (begR (F 34 1) R) := fun R => wk_en wk R
  refine OPP.q w (xc_held (S2 := fun f => waysN H g (wyN f (F 36) 0 1 0 a T S U H 0 (rtN b)) (fun _ => 0)) w0 x1 x16 xt wk sc sh (fun f _ j hj => (ways_num wk.2.2.2.1 wk.2.2.2.2.2.1 wk.2.2.2.2.2.2.1 wk.2.2.2.2.2.2.2.2.1 wk.2.2.2.2.2.2.2.2.2.2.1 wk.2.2.2.2.2.2.2.2.2.2.2.2.2.2.1 j).1) c lane i) (fun sx' h1 n1 w1 => ?_)
  exact mc_held w1.2.1 mk (fun R => wk_en wk R) (fun f R => wk_en wk R) (fun f j hj => s2_of wk ok h4 f hj) vs.1 c lane i
end OPQ
