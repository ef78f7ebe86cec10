-- Obj fields dict_keys(['cls', 'fun', 'sname', 'refs', 'extra', 'ups'])
/-! the component: heldBy, the whole; held -/
set_option maxRecDepth 100000
set_option maxHeartbeats 600000 in
theorem lx_hb3 {l : Launch} {G : GW} {h : AH} {n : Nat} {s F34 f4 f5 g13 g14 w4 w5 : Nat → Int32} {FL : Nat → Int64} {SN : Nat → Nat} {H x en u : Nat} (x1 : h 1 = some (XO s)) (x2 : h 2 = some TO0) (x3 : h 3 = some (IA 8 F34)) (x4 : h 4 = some (IA 7 f4)) (x5 : h 5 = some (IA 7 f5)) (x13 : h 13 = some (IA 7 g13)) (x14 : h 14 = some (IA 7 g14)) (e13 : ∀ j, j < 7 → g13 j = w4 j) (e14 : ∀ j, j < 7 → g14 j = w5 j) (hen : 63 ≤ en) (hu : 63 ≤ u) (xe : h en = some (OB 10 [.ref u])) (xu : h u = some (JA 100 FL)) (hFL : ∀ j, j < 100 → FL j = lN (SN j)) (hFH : F34 2 = nI H) (hH6 : H ≤ 6) {ln q r z bb b0 : Nat} {f IT : Nat → Int32} (hq : 29 ≤ q) (hr : 63 ≤ r) (hl : ln < 3) (hz : z ≤ 16) (xq : h q = some (OB 3 [.ref r])) (xr_ : h r = some (rwA ln z f)) (hbz : bb + (H + 1) ≤ z) (hI : ∀ j, j ≤ H → f (bb + j) = IT (b0 + j)) (hx : IT (b0 + H) = nI x) (hx1 : x < 100) {Q : Option Value → AH → Nat → Prop} (hq9 : Q (some (.int (cnG SN x 100))) (hov h [(4, IA 7 w4), (5, IA 7 w5)]) n) : ∀ (f1 k : Nat), k + f1 = 100 → EW l G yX0_heldBy cX0_heldBy 8 (some .int) 34 2 101 Q 2 101 (hov h [(4, IA 7 w4), (5, IA 7 w5)]) n 176 [some (.ref 1), some (.ref q), some (.int (nI bb)), some (.ref en), some (.long (lN (SN x))), none, some (.int (cnG SN x k)), some (.int (nI k))] [] := by
  intro f1
  induction f1 with
  | zero =>
    intro k hk
    refine ew_iload (t := 178) dX0_heldBy_176 rfl rfl ?_
    refine ew_bipush (t := 180) (v := 100) dX0_heldBy_178 (by decide) rfl ?_
    refine ew_icmp_ge (t := 212) (t2 := 183) dX0_heldBy_180 rfl rfl (fun c_180 => ?_) (fun c_180 => ?_)
    · refine ew_iload (t := 214) dX0_heldBy_212 rfl rfl ?_
      exact ew_iret rfl dX0_heldBy_214 (by decide) (by decide) (by rw [show k = 100 by omega]; exact hq9)
    · exact absurd (show (100 : Int32) ≤ nI k by rw [show k = 100 by omega]; decide) c_180
  | succ f1 ih =>
    intro k hk
    refine ew_iload (t := 178) dX0_heldBy_176 rfl rfl ?_
    refine ew_bipush (t := 180) (v := 100) dX0_heldBy_178 (by decide) rfl ?_
    refine ew_icmp_ge (t := 212) (t2 := 183) dX0_heldBy_180 rfl rfl (fun c_180 => ?_) (fun c_180 => ?_)
    · exact absurd c_180 (nI_ge (b := 100) (by omega) (by omega))
    · refine ew_iload (t := 185) dX0_heldBy_183 rfl rfl ?_
      refine ew_aload_n (t := 186) dX0_heldBy_185 rfl rfl rfl ?_
      refine ew_getN (t := 189) (j := 0) (v := .ref u) fcX11 ((hv_miss (by omega)).trans ((hv_miss (by omega)).trans xe)) (Nat.le_of_ble_eq_true rfl) q745 rfl dX0_heldBy_186 rfl ?_
      refine ew_iload (t := 191) dX0_heldBy_189 rfl rfl ?_
      refine ew_lald (t := 192) (j := k) (N := 100) ((hv_miss (by omega)).trans ((hv_miss (by omega)).trans xu)) (vp_in_nI (by omega) (by omega)) (nI_clamp (by omega)) dX0_heldBy_191 rfl ?_
      rw [hFL k (by omega)]
      refine ew_lload (t := 194) dX0_heldBy_192 rfl rfl ?_
      have J203 : ∀ (j203_0 : Int32), j203_0 = ((if (lN (SN k)) ≤ (lN (SN x)) then 0 else 1) : Int32) → EW l G yX0_heldBy cX0_heldBy 8 (some .int) 34 2 101 Q 2 101 (hov h [(4, IA 7 w4), (5, IA 7 w5)]) n 203 [some (.ref 1), some (.ref q), some (.int (nI bb)), some (.ref en), some (.long (lN (SN x))), none, some (.int (cnG SN x k)), some (.int (nI k))] [.int j203_0, .int (cnG SN x k)] := by
        intro j203_0 hj203_0
        refine ew_iadd (t := 204) dX0_heldBy_203 rfl ?_
        refine ew_istore (t := 206) (L' := [some (.ref 1), some (.ref q), some (.int (nI bb)), some (.ref en), some (.long (lN (SN x))), none, some (.int ((cnG SN x k) + j203_0)), some (.int (nI k))]) dX0_heldBy_204 (Nat.le_of_ble_eq_true rfl) rfl rfl ?_
        refine ew_iinc (t := 209) (x := (nI k)) (v := ((nI k) + 1)) (L' := [some (.ref 1), some (.ref q), some (.int (nI bb)), some (.ref en), some (.long (lN (SN x))), none, some (.int ((cnG SN x k) + j203_0)), some (.int ((nI k) + 1))]) dX0_heldBy_206 rfl rfl (Nat.le_of_ble_eq_true rfl) rfl rfl ?_
        refine ew_goto (t := 176) dX0_heldBy_209 rfl ?_
        rw [nI_1 k, show cnG SN x k + j203_0 = cnG SN x (k + 1) from by rw [hj203_0]; rfl]
        exact ih (k + 1) (by omega)
      refine ew_lcmp_le (t1 := 195) (t := 202) (t2 := 198) dX0_heldBy_194 rfl dX0_heldBy_195 rfl rfl (fun c_194 => ?_) (fun c_194 => ?_)
      · refine ew_ic0 (t := 203) dX0_heldBy_202 rfl ?_
        exact J203 0 (by simp only [if_pos c_194])
      · refine ew_ic1 (t := 199) dX0_heldBy_198 rfl ?_
        refine ew_goto (t := 203) dX0_heldBy_199 rfl ?_
        exact J203 1 (by simp only [if_neg c_194])
set_option maxHeartbeats 600000 in
theorem lx_hb4 {l : Launch} {G : GW} {h : AH} {n : Nat} {s F34 f4 f5 g13 g14 w4 w5 : Nat → Int32} {FL : Nat → Int64} {SN : Nat → Nat} {H x en u : Nat} (x1 : h 1 = some (XO s)) (x2 : h 2 = some TO0) (x3 : h 3 = some (IA 8 F34)) (x4 : h 4 = some (IA 7 f4)) (x5 : h 5 = some (IA 7 f5)) (x13 : h 13 = some (IA 7 g13)) (x14 : h 14 = some (IA 7 g14)) (e13 : ∀ j, j < 7 → g13 j = w4 j) (e14 : ∀ j, j < 7 → g14 j = w5 j) (hen : 63 ≤ en) (hu : 63 ≤ u) (xe : h en = some (OB 10 [.ref u])) (xu : h u = some (JA 100 FL)) (hFL : ∀ j, j < 100 → FL j = lN (SN j)) (hFH : F34 2 = nI H) (hH6 : H ≤ 6) {ln q r z bb b0 : Nat} {f IT : Nat → Int32} (hq : 29 ≤ q) (hr : 63 ≤ r) (hl : ln < 3) (hz : z ≤ 16) (xq : h q = some (OB 3 [.ref r])) (xr_ : h r = some (rwA ln z f)) (hbz : bb + (H + 1) ≤ z) (hI : ∀ j, j ≤ H → f (bb + j) = IT (b0 + j)) (hx : IT (b0 + H) = nI x) (hx1 : x < 100) {Q : Option Value → AH → Nat → Prop} (hq9 : Q (some (.int (cnG SN x 100))) (hov h [(4, IA 7 w4), (5, IA 7 w5)]) n) : EW l G yX0_heldBy cX0_heldBy 8 (some .int) 34 2 101 Q 2 101 h n 114 [some (.ref 1), some (.ref q), some (.int (nI bb)), some (.ref en), none, none, none, none] [] := by
  refine ew_aload_n (t := 115) dX0_heldBy_114 rfl rfl rfl ?_
  refine ew_get (t := 118) (j := 5) (v := .ref 13) fcX0 x1 (Nat.le_of_ble_eq_true rfl) q260 rfl dX0_heldBy_115 rfl ?_
  refine ew_ic0 (t := 119) dX0_heldBy_118 rfl ?_
  refine ew_aload_n (t := 120) dX0_heldBy_119 rfl rfl rfl ?_
  refine ew_get (t := 123) (j := 0) (v := .ref 2) fcX0 x1 (Nat.le_of_ble_eq_true rfl) q255 rfl dX0_heldBy_120 rfl ?_
  refine ew_getN (t := 126) (j := 1) (v := .ref 4) fcX1 x2 (Nat.le_of_ble_eq_true rfl) q129 rfl dX0_heldBy_123 rfl ?_
  refine ew_ic0 (t := 127) dX0_heldBy_126 rfl ?_
  refine ew_bipush (t := 129) (v := 7) dX0_heldBy_127 (by decide) rfl ?_
  refine ew_copyI (t := 132) (K := 0) (ty := .int) (sp := 0) (dp := 0) (N := 7) (h' := (hov h [(4, IA 7 (va_cpy g13 f4 0 0 7))])) q357 q359 q358 q61 x13 x4 rfl rfl (by decide) (by decide) (by decide) (by decide) (by decide) (by decide) (by decide) (by decide) (fun _ _ => rfl) dX0_heldBy_129 (Nat.le_of_ble_eq_true rfl) (Nat.le_of_ble_eq_true rfl) hov_up0 rfl ?_
  refine ew_aload_n (t := 133) dX0_heldBy_132 rfl rfl rfl ?_
  refine ew_get (t := 136) (j := 6) (v := .ref 14) fcX0 ((hv_miss (by omega)).trans x1) (Nat.le_of_ble_eq_true rfl) q261 rfl dX0_heldBy_133 rfl ?_
  refine ew_ic0 (t := 137) dX0_heldBy_136 rfl ?_
  refine ew_aload_n (t := 138) dX0_heldBy_137 rfl rfl rfl ?_
  refine ew_get (t := 141) (j := 0) (v := .ref 2) fcX0 ((hv_miss (by omega)).trans x1) (Nat.le_of_ble_eq_true rfl) q255 rfl dX0_heldBy_138 rfl ?_
  refine ew_getN (t := 144) (j := 2) (v := .ref 5) fcX1 ((hv_miss (by omega)).trans x2) (Nat.le_of_ble_eq_true rfl) q131 rfl dX0_heldBy_141 rfl ?_
  refine ew_ic0 (t := 145) dX0_heldBy_144 rfl ?_
  refine ew_bipush (t := 147) (v := 7) dX0_heldBy_145 (by decide) rfl ?_
  refine ew_copyI (t := 150) (K := 0) (ty := .int) (sp := 0) (dp := 0) (N := 7) (h' := (hov h [(4, IA 7 (va_cpy g13 f4 0 0 7)), (5, IA 7 (va_cpy g14 f5 0 0 7))])) q357 q359 q358 q61 ((hv_miss (by omega)).trans x14) ((hv_miss (by omega)).trans x5) rfl rfl (by decide) (by decide) (by decide) (by decide) (by decide) (by decide) (by decide) (by decide) (fun _ _ => rfl) dX0_heldBy_147 (Nat.le_of_ble_eq_true rfl) (Nat.le_of_ble_eq_true rfl) (hov_set_miss (by omega) hov_set_nil) rfl ?_
  refine EW.arrI (h' := (hov h [(4, IA 7 w4), (5, IA 7 (va_cpy g14 f5 0 0 7))])) (a := 4) w4 rfl (fun j hj => (cpy7 j hj).trans (e13 j hj)) (hov_up rfl) ?_
  refine EW.arrI (h' := (hov h [(4, IA 7 w4), (5, IA 7 w5)])) (a := 5) w5 rfl (fun j hj => (cpy7 j hj).trans (e14 j hj)) (hov_up rfl) ?_
  refine ew_aload_n (t := 151) dX0_heldBy_150 rfl rfl rfl ?_
  refine ew_getN (t := 154) (j := 0) (v := .ref u) fcX11 ((hv_miss (by omega)).trans ((hv_miss (by omega)).trans xe)) (Nat.le_of_ble_eq_true rfl) q745 rfl dX0_heldBy_151 rfl ?_
  refine ew_aload_n (t := 155) dX0_heldBy_154 rfl rfl rfl ?_
  refine ew_iload_n (t := 156) dX0_heldBy_155 rfl rfl rfl ?_
  refine ew_aload_n (t := 157) dX0_heldBy_156 rfl rfl rfl ?_
  refine ew_get (t := 160) (j := 0) (v := .ref 2) fcX0 ((hv_miss (by omega)).trans ((hv_miss (by omega)).trans x1)) (Nat.le_of_ble_eq_true rfl) q255 rfl dX0_heldBy_157 rfl ?_
  refine ew_callV (t := 163) (As := []) (ax_hours (h := (hov h [(4, IA 7 w4), (5, IA 7 w5)])) ((hv_miss (by omega)).trans ((hv_miss (by omega)).trans x2)) ((hv_miss (by omega)).trans ((hv_miss (by omega)).trans x3))) (fcX1).1 ((hv_miss (by omega)).trans ((hv_miss (by omega)).trans x2)) (lw_V q446 q447 q448 q52 q449) rfl naX1_hours dX0_heldBy_160 rfl (Nat.le_of_ble_eq_true rfl) (Nat.le_of_ble_eq_true rfl) (by omega) (by omega) (Nat.le_of_ble_eq_true rfl) rfl (qi ?_)
  rw [hFH]
  refine ew_iadd (t := 164) dX0_heldBy_163 rfl ?_
  rw [nI_add bb H]
  refine ew_callV (t := 167) (As := [_]) (ax_getR (h := (hov h [(4, IA 7 w4), (5, IA 7 w5)])) hl ((hv_miss (by omega)).trans ((hv_miss (by omega)).trans xq)) ((hv_miss (by omega)).trans ((hv_miss (by omega)).trans xr_)) (show bb + H < z by omega) hz) (fcX3).1 ((hv_miss (by omega)).trans ((hv_miss (by omega)).trans xq)) (lw_V q842 q843 q844 q59 q845) rfl naX3_get dX0_heldBy_164 rfl (Nat.le_of_ble_eq_true rfl) (Nat.le_of_ble_eq_true rfl) (by omega) (by omega) (Nat.le_of_ble_eq_true rfl) rfl (qi ?_)
  rw [hI H (Nat.le_refl _), hx]
  refine ew_lald (t := 168) (j := x) (N := 100) ((hv_miss (by omega)).trans ((hv_miss (by omega)).trans xu)) (vp_in_nI (by omega) (by omega)) (nI_clamp (by omega)) dX0_heldBy_167 rfl ?_
  rw [hFL x hx1]
  refine ew_lstore (t := 170) (L' := [some (.ref 1), some (.ref q), some (.int (nI bb)), some (.ref en), some (.long (lN (SN x))), none, none, none]) dX0_heldBy_168 (Nat.le_of_ble_eq_true rfl) rfl rfl ?_
  refine ew_ic0 (t := 171) dX0_heldBy_170 rfl ?_
  refine ew_istore (t := 173) (L' := [some (.ref 1), some (.ref q), some (.int (nI bb)), some (.ref en), some (.long (lN (SN x))), none, some (.int 0), none]) dX0_heldBy_171 (Nat.le_of_ble_eq_true rfl) rfl rfl ?_
  refine ew_ic0 (t := 174) dX0_heldBy_173 rfl ?_
  refine ew_istore (t := 176) (L' := [some (.ref 1), some (.ref q), some (.int (nI bb)), some (.ref en), some (.long (lN (SN x))), none, some (.int 0), some (.int 0)]) dX0_heldBy_174 (Nat.le_of_ble_eq_true rfl) rfl rfl ?_
  exact lx_hb3 x1 x2 x3 x4 x5 x13 x14 e13 e14 hen hu xe xu hFL hFH hH6 hq hr hl hz xq xr_ hbz hI hx hx1 hq9 100 0 (by omega)
theorem okR_hd {f I : Nat → Int32} {a b H : Nat} (h : okR f) : ∀ k, okR (hdR f I a b H k)
  | 0 => h
  | k + 1 => by
    intro j hj
    rw [hdR]
    by_cases e : j = k + 1
    · subst e
      rw [pk_us]
      by_cases c : nI H < nI (k + 1)
      · rw [if_pos c]; exact Or.inl (by decide)
      · rw [if_neg c]; exact Or.inr ⟨_, Nat.le_trans awayF_le (by decide), rfl⟩
    · rw [pk_un e]; exact okR_hd h k j hj
theorem wk_hd {F : Nat → Nat → Int32} {a b H T S U g wd : Nat} {f35 f36 : Nat → Int32} (wk : WKc F a b H T S U g wd) (h : okR f35) : WKc (va_up (va_up F 35 f35) 36 f36) a b H T S U g wd := by
  unfold WKc at wk ⊢
  exact ⟨wk.1, wk.2.1, wk.2.2.1, wk.2.2.2.1, wk.2.2.2.2.1, wk.2.2.2.2.2.1, wk.2.2.2.2.2.2.1, wk.2.2.2.2.2.2.2.1, wk.2.2.2.2.2.2.2.2.1, wk.2.2.2.2.2.2.2.2.2.1, wk.2.2.2.2.2.2.2.2.2.2.1, wk.2.2.2.2.2.2.2.2.2.2.2.1, wk.2.2.2.2.2.2.2.2.2.2.2.2.1, wk.2.2.2.2.2.2.2.2.2.2.2.2.2.1, wk.2.2.2.2.2.2.2.2.2.2.2.2.2.2.1, wk.2.2.2.2.2.2.2.2.2.2.2.2.2.2.2.1, wk.2.2.2.2.2.2.2.2.2.2.2.2.2.2.2.2.1, h⟩
theorem aw_hd {F : Nat → Nat → Int32} {a b H T S U : Nat} {f35 : Nat → Int32} (hH : H ≤ 6) : allW (va_up (va_up F 35 f35) 36 (zrT (F 36) 6)) 0 0 0 a b H T S U = wyN f35 (F 36) 0 1 0 a T S U H 0 (rtN b) := by
  show wyN f35 (zrT (F 36) 6) 0 0 0 a T S U H 0 (rtN b) = _
  exact wy_t (fun j h1 h2 => zrT_get 6 j h1 h2) H 0 (rtN b) (by omega)
set_option maxHeartbeats 600000 in
theorem xf_heldBy {l : Launch} {G : GW} {h : AH} {n : Nat} {s ce : Nat → Int32} {F : Nat → Nat → Int32} {a b H T S U g wd : Nat} (hn : 63 ≤ n) (x1 : h 1 = some (XO s)) (x16 : h 16 = some (IA 7 ce)) (xt : XT F h) (wk : WKc F a b H T S U g wd) (sc : scX h) {ln q r z bb b0 : Nat} {f IT : Nat → Int32} (hq : 29 ≤ q) (hr : 63 ≤ r) (hl : ln < 3) (hz : z ≤ 16) (xq : h q = some (OB 3 [.ref r])) (xr_ : h r = some (rwA ln z f)) (hbz : bb + (H + 1) ≤ z) (hI : ∀ j, j ≤ H → f (bb + j) = IT (b0 + j)) (hc : ∀ j, j ≤ H → IT (b0 + j) = nI (IT (b0 + j)).toNatClampNeg ∧ (IT (b0 + j)).toNatClampNeg < 100) (hqn : q < n) (hrn : r < n) {SN : Nat → Nat} (hE2 : ∀ j, j < 100 → waysS H g (wyN (hdR (F 35) IT a b0 H 6) (F 36) 0 1 0 a T S U H 0 (rtN b)) (fun _ => 0) j = lN (SN j)) : AM l G yX0_heldBy cX0_heldBy 8 (some .int) 34 2 101 [.ref 1, .ref q, .int (nI bb)] h n (XQ s h n (.int (cnG SN (IT (b0 + H)).toNatClampNeg 100))) := by
  refine AM.of (L := [some (.ref 1), some (.ref q), some (.int (nI bb)), none, none, none, none, none]) (by decide) (Nat.le_of_ble_eq_true rfl) rfl ?_
  obtain ⟨f1, x13⟩ := sc.1
  obtain ⟨g1, x14⟩ := sc.2.1
  refine ew_aload_n (t := 1) dX0_heldBy_0 rfl rfl rfl ?_
  refine ew_get (t := 4) (j := 0) (v := .ref 2) fcX0 x1 (Nat.le_of_ble_eq_true rfl) q255 rfl dX0_heldBy_1 rfl ?_
  refine ew_getN (t := 7) (j := 1) (v := .ref 4) fcX1 xt.1 (Nat.le_of_ble_eq_true rfl) q129 rfl dX0_heldBy_4 rfl ?_
  refine ew_ic0 (t := 8) dX0_heldBy_7 rfl ?_
  refine ew_aload_n (t := 9) dX0_heldBy_8 rfl rfl rfl ?_
  refine ew_get (t := 12) (j := 5) (v := .ref 13) fcX0 x1 (Nat.le_of_ble_eq_true rfl) q260 rfl dX0_heldBy_9 rfl ?_
  refine ew_ic0 (t := 13) dX0_heldBy_12 rfl ?_
  refine ew_bipush (t := 15) (v := 7) dX0_heldBy_13 (by decide) rfl ?_
  refine ew_copyI (t := 18) (K := 0) (ty := .int) (sp := 0) (dp := 0) (N := 7) (h' := (hov h [(13, IA 7 (va_cpy (frX (F 35)) f1 0 0 7))])) q357 q359 q358 q61 xt.2.2.1 x13 rfl rfl (by decide) (by decide) (by decide) (by decide) (by decide) (by decide) (by decide) (by decide) (fun _ _ => rfl) dX0_heldBy_15 (Nat.le_of_ble_eq_true rfl) (Nat.le_of_ble_eq_true rfl) hov_up0 rfl ?_
  refine ew_aload_n (t := 19) dX0_heldBy_18 rfl rfl rfl ?_
  refine ew_get (t := 22) (j := 0) (v := .ref 2) fcX0 ((hv_miss (by omega)).trans x1) (Nat.le_of_ble_eq_true rfl) q255 rfl dX0_heldBy_19 rfl ?_
  refine ew_getN (t := 25) (j := 2) (v := .ref 5) fcX1 ((hv_miss (by omega)).trans xt.1) (Nat.le_of_ble_eq_true rfl) q131 rfl dX0_heldBy_22 rfl ?_
  refine ew_ic0 (t := 26) dX0_heldBy_25 rfl ?_
  refine ew_aload_n (t := 27) dX0_heldBy_26 rfl rfl rfl ?_
  refine ew_get (t := 30) (j := 6) (v := .ref 14) fcX0 ((hv_miss (by omega)).trans x1) (Nat.le_of_ble_eq_true rfl) q261 rfl dX0_heldBy_27 rfl ?_
  refine ew_ic0 (t := 31) dX0_heldBy_30 rfl ?_
  refine ew_bipush (t := 33) (v := 7) dX0_heldBy_31 (by decide) rfl ?_
  refine ew_copyI (t := 36) (K := 0) (ty := .int) (sp := 0) (dp := 0) (N := 7) (h' := (hov h [(13, IA 7 (va_cpy (frX (F 35)) f1 0 0 7)), (14, IA 7 (va_cpy (F 36) g1 0 0 7))])) q357 q359 q358 q61 ((hv_miss (by omega)).trans xt.2.2.2.1) ((hv_miss (by omega)).trans x14) rfl rfl (by decide) (by decide) (by decide) (by decide) (by decide) (by decide) (by decide) (by decide) (fun _ _ => rfl) dX0_heldBy_33 (Nat.le_of_ble_eq_true rfl) (Nat.le_of_ble_eq_true rfl) (hov_set_miss (by omega) hov_set_nil) rfl ?_
  refine ew_ic1 (t := 37) dX0_heldBy_36 rfl ?_
  refine ew_istore_n (t := 38) (L' := [some (.ref 1), some (.ref q), some (.int (nI bb)), some (.int 1), none, none, none, none]) dX0_heldBy_37 rfl (Nat.le_of_ble_eq_true rfl) rfl rfl ?_
  refine EW.heap (h' := hov (hov h [(13, IA 7 (va_cpy (frX (F 35)) f1 0 0 7)), (14, IA 7 (va_cpy (F 36) g1 0 0 7))]) [(4, IA 7 (frX (F 35))), (5, IA 7 (F 36))]) (hov_same2 (h := (hov h [(13, IA 7 (va_cpy (frX (F 35)) f1 0 0 7)), (14, IA 7 (va_cpy (F 36) g1 0 0 7))])) (a := 4) (b := 5) xt.2.2.1 xt.2.2.2.1).symm ?_
  refine lx_hb1 (h := (hov h [(13, IA 7 (va_cpy (frX (F 35)) f1 0 0 7)), (14, IA 7 (va_cpy (F 36) g1 0 0 7))])) (f35 := F 35) (f36 := F 36) (F34 := F 34) (IT := IT) (b0 := b0) x1 xt.1 xt.2.1 wk.1 wk.2.1 wk.2.2.2.2.1 wk.2.2.2.2.2.2.1 hq hr hl hz ((hv_miss (by omega)).trans ((hv_miss (by omega)).trans xq)) ((hv_miss (by omega)).trans ((hv_miss (by omega)).trans xr_)) hbz hI hc ?_ 6 0 (by omega)
  have xt2 : XT (va_up (va_up F 35 (hdR (F 35) IT a b0 H 6)) 36 (zrT (F 36) 6)) (hov (hov h [(13, IA 7 (va_cpy (frX (F 35)) f1 0 0 7)), (14, IA 7 (va_cpy (F 36) g1 0 0 7))]) [(4, IA 7 (frX (hdR (F 35) IT a b0 H 6))), (5, IA 7 (zrT (F 36) 6))]) := ⟨xt.1, xt.2.1, rfl, rfl, xt.2.2.2.2.1, xt.2.2.2.2.2.1, xt.2.2.2.2.2.2⟩
  refine lx_hb2 (h := (hov (hov h [(13, IA 7 (va_cpy (frX (F 35)) f1 0 0 7)), (14, IA 7 (va_cpy (F 36) g1 0 0 7))]) [(4, IA 7 (frX (hdR (F 35) IT a b0 H 6))), (5, IA 7 (zrT (F 36) 6))])) (F := (va_up (va_up F 35 (hdR (F 35) IT a b0 H 6)) 36 (zrT (F 36) 6))) (g := g) hn x1 x16 xt2 (wk_hd wk (okR_hd wk.2.2.2.2.2.2.2.2.2.2.2.2.2.2.2.2.2 6)) (fun s' ce' kp => ?_)
  rw [aw_hd wk.2.2.2.2.2.2.1]
  have lo : ∀ k, k < n → ¬ k = 1 → ¬ k = 16 → (XH (hov (hov (hov h [(13, IA 7 (va_cpy (frX (F 35)) f1 0 0 7)), (14, IA 7 (va_cpy (F 36) g1 0 0 7))]) [(4, IA 7 (frX (hdR (F 35) IT a b0 H 6))), (5, IA 7 (zrT (F 36) 6))]) [(n, OB 10 [.ref (n + 1)]), (n + 1, JA 100 (waysS H g (wyN (hdR (F 35) IT a b0 H 6) (F 36) 0 1 0 a T S U H 0 (rtN b)) (fun _ => 0)))]) s' ce') k = (hov (hov h [(13, IA 7 (va_cpy (frX (F 35)) f1 0 0 7)), (14, IA 7 (va_cpy (F 36) g1 0 0 7))]) [(4, IA 7 (frX (hdR (F 35) IT a b0 H 6))), (5, IA 7 (zrT (F 36) 6))]) k := fun k h1 h2 h3 => (XH_lo h2 h3).trans (below2 h1)
  have hs3 : ∀ k, 17 ≤ k → (hov (hov h [(13, IA 7 (va_cpy (frX (F 35)) f1 0 0 7)), (14, IA 7 (va_cpy (F 36) g1 0 0 7))]) [(4, IA 7 (frX (hdR (F 35) IT a b0 H 6))), (5, IA 7 (zrT (F 36) 6))]) k = h k := fun k hk => (hv_miss (by omega)).trans ((hv_miss (by omega)).trans ((hv_miss (by omega)).trans (hv_miss (by omega))))
  refine lx_hb4 (h := (XH (hov (hov (hov h [(13, IA 7 (va_cpy (frX (F 35)) f1 0 0 7)), (14, IA 7 (va_cpy (F 36) g1 0 0 7))]) [(4, IA 7 (frX (hdR (F 35) IT a b0 H 6))), (5, IA 7 (zrT (F 36) 6))]) [(n, OB 10 [.ref (n + 1)]), (n + 1, JA 100 (waysS H g (wyN (hdR (F 35) IT a b0 H 6) (F 36) 0 1 0 a T S U H 0 (rtN b)) (fun _ => 0)))]) s' ce')) (s := s') (F34 := F 34) (w4 := frX (F 35)) (w5 := F 36) (SN := SN) (x := (IT (b0 + H)).toNatClampNeg) (en := n) (u := n + 1) rfl ((lo 2 (by omega) (by omega) (by omega)).trans xt.1) ((lo 3 (by omega) (by omega) (by omega)).trans xt.2.1) ((lo 4 (by omega) (by omega) (by omega)).trans rfl) ((lo 5 (by omega) (by omega) (by omega)).trans rfl) ((lo 13 (by omega) (by omega) (by omega)).trans rfl) ((lo 14 (by omega) (by omega) (by omega)).trans rfl) cpy7 cpy7 hn (by omega) ((XH_hi (by omega)).trans hv_hit) ((XH_hi (by omega)).trans ((hv_miss (by omega)).trans hv_hit)) hE2 wk.2.2.2.2.1 wk.2.2.2.2.2.2.1 hq hr hl hz ((lo q hqn (by omega) (by omega)).trans ((hs3 q (by omega)).trans xq)) ((lo r hrn (by omega) (by omega)).trans ((hs3 r (by omega)).trans xr_)) hbz hI (hc H (Nat.le_refl _)).1 (hc H (Nat.le_refl _)).2 ?_
  obtain ⟨-, -, s3, -, s5, s6⟩ := sc
  refine ⟨rfl, by omega, fun k h1 h2 => ?_, ⟨⟨_, (lo 13 (by omega) (by omega) (by omega)).trans rfl⟩, ⟨_, (lo 14 (by omega) (by omega) (by omega)).trans rfl⟩, ?_, ⟨ce', rfl⟩, ?_, ?_⟩, s', rfl, kp 3 (by omega), kp 18 (by omega)⟩
  · by_cases e4 : k = 4
    · subst e4; exact xt.2.2.1.symm
    by_cases e5 : k = 5
    · subst e5; exact xt.2.2.2.1.symm
    rw [hv_miss e4, hv_miss e5]
    exact (lo k h1 (by omega) (by omega)).trans ((hv_miss e4).trans ((hv_miss e5).trans ((hv_miss (by omega)).trans (hv_miss (by omega)))))
  · obtain ⟨f3, e3⟩ := s3; exact ⟨f3, (lo 15 (by omega) (by omega) (by omega)).trans e3⟩
  · obtain ⟨f3, e3⟩ := s5; exact ⟨f3, (lo 17 (by omega) (by omega) (by omega)).trans e3⟩
  · obtain ⟨f3, e3⟩ := s6; exact ⟨f3, (lo 18 (by omega) (by omega) (by omega)).trans e3⟩
theorem wk_en {F : Nat → Nat → Int32} {a b H T S U g wd : Nat} (wk : WKc F a b H T S U g wd) {f : Nat → Int32} {nr nt nf : Int32} (R : MR) : EnM (F 34) f (F 36) nr nt nf a H (wyN f (F 36) nr nt nf a T S U H 0 (rtN b)) 0 (begR (F 34 1) R) :=
  EnM_all wk.2.2.2.1 wk.2.2.1 wk.2.2.2.2.2.1 wk.2.2.2.2.2.2.1 wk.2.2.2.2.2.2.2.1 wk.2.2.2.2.2.2.2.2.1 wk.2.2.2.2.2.2.2.2.2.1 wk.2.2.2.2.2.2.2.2.2.2.1 wk.2.2.2.2.2.2.2.2.2.2.2.1 (by have := wk.2.2.2.2.2.2.2.2.2.2.2.2.1; omega) R
theorem XT.mv {F : Nat → Nat → Int32} {h h' : AH} (xt : XT F h) (e : ∀ k, 2 ≤ k → k ≤ 8 → h' k = h k) : XT F h' :=
  ⟨(e 2 (by omega) (by omega)).trans xt.1, (e 3 (by omega) (by omega)).trans xt.2.1, (e 4 (by omega) (by omega)).trans xt.2.2.1, (e 5 (by omega) (by omega)).trans xt.2.2.2.1, (e 6 (by omega) (by omega)).trans xt.2.2.2.2.1, (e 7 (by omega) (by omega)).trans xt.2.2.2.2.2.1, (e 8 (by omega) (by omega)).trans xt.2.2.2.2.2.2⟩
set_option maxHeartbeats 600000 in
theorem xc_held {l : Launch} {G : GW} {h : AH} {n : Nat} {s ce : Nat → Int32} {F : Nat → Nat → Int32} {a b H T S U g wd : Nat} (hn : 63 ≤ n) (x1 : h 1 = some (XO s)) (x16 : h 16 = some (IA 7 ce)) (xt : XT F h) (wk : WKc F a b H T S U g wd) (sc : scX h) {rr : Nat → Nat} (sh : SHx F h n rr) {S2 : (Nat → Int32) → Nat → Nat} (hE2 : ∀ f, okR f → ∀ j, j < 100 → waysS H g (wyN f (F 36) 0 1 0 a T S U H 0 (rtN b)) (fun _ => 0) j = lN (S2 f j)) (c lane i : Int32) : AM l G yX0_held cX0_held 5 (some .int) 35 4 110 [.ref 1, .int c, .int lane, .int i] h n (XQ s h n (.int (hldF F a H (allW F 127 0 0 a b H T S U) S2 c lane i))) := by
  refine AM.of (L := [some (.ref 1), some (.int c), some (.int lane), some (.int i), none]) (by decide) (Nat.le_of_ble_eq_true rfl) rfl ?_
  refine ew_iload_n (t := 1) dX0_held_0 rfl rfl rfl ?_
  refine ew_callS (t := 4) (As := [_]) (ax_isSheet  _) (lw_S q802 q803 q51 q804) naX0_isSheet dX0_held_1 rfl (Nat.le_of_ble_eq_true rfl) (Nat.le_of_ble_eq_true rfl) (by omega) (by omega) (Nat.le_of_ble_eq_true rfl) rfl (qi ?_)
  refine ew_if_eq (t := 14) (t2 := 7) dX0_held_4 rfl rfl (fun c_4 => ?_) (fun c_4 => ?_)
  · refine ew_icm1 (t := 15) dX0_held_14 rfl ?_
    exact ew_iret rfl dX0_held_15 (by decide) (by decide) (by unfold hldF; rw [if_pos c_4]; exact XQ.same x1 sc)
  · refine ew_iload_n (t := 8) dX0_held_7 rfl rfl rfl ?_
    refine ew_callS (t := 11) (As := [_]) (ax_isLane  _) (lw_S q805 q806 q51 q807) naX0_isLane dX0_held_8 rfl (Nat.le_of_ble_eq_true rfl) (Nat.le_of_ble_eq_true rfl) (by omega) (by omega) (Nat.le_of_ble_eq_true rfl) rfl (qi ?_)
    refine ew_if_ne (t := 16) (t2 := 14) dX0_held_11 rfl rfl (fun c_11 => ?_) (fun c_11 => ?_)
    · obtain ⟨t, -, ht, rfl⟩ := inI_nat (c := c) (lo := 0) (hi := 3) (by omega) (by omega) (b2i_1.mp c_4)
      replace ht : t < 4 := by omega
      have hH6 := wk.2.2.2.2.2.2.1
      refine ew_aload_n (t := 17) dX0_held_16 rfl rfl rfl ?_
      refine ew_iload_n (t := 18) dX0_held_17 rfl rfl rfl ?_
      refine ew_iload_n (t := 19) dX0_held_18 rfl rfl rfl ?_
      refine ew_iload_n (t := 20) dX0_held_19 rfl rfl rfl ?_
      refine ew_callV (t := 23) (As := [_, _, _]) (ax_lacks x1 xt sh wk.2.2.2.2.1 wk.2.2.2.2.2.2.1 ht lane i) (fcX0).1 x1 (lw_V q808 q810 qs26 q51 q811) rfl naX0_lacks dX0_held_20 rfl (Nat.le_of_ble_eq_true rfl) (Nat.le_of_ble_eq_true rfl) (by omega) (by omega) (Nat.le_of_ble_eq_true rfl) rfl (qi ?_)
      refine ew_istore (t := 25) (L' := [some (.ref 1), some (.int (nI t)), some (.int lane), some (.int i), some (.int (refI (F 59) (F 60) t lane i (nI (H + 1))))]) dX0_held_23 (Nat.le_of_ble_eq_true rfl) rfl rfl ?_
      refine ew_iload (t := 27) dX0_held_25 rfl rfl ?_
      refine ew_if_ge (t := 33) (t2 := 30) dX0_held_27 rfl rfl (fun c_27 => ?_) (fun c_27 => ?_)
      · rcases sh.2 t ht with ⟨q1, q2⟩ | ⟨ln, z, f, q1, q2, q3, q4, q5, q6, q7, q8, q9⟩
        · exact absurd c_27 (by rw [ref_11 q1]; decide)
        · obtain ⟨eln, bb, ebb, hbz⟩ := refI_ok (by omega) q2 q4 c_27
          subst ebb
          have hI : ∀ j, j ≤ H → f (bb + j) = F 61 (16 * t + bb + j) := fun j hj => by rw [q9 (bb + j) (by omega), Nat.add_assoc]
          refine ew_aload_n (t := 34) dX0_held_33 rfl rfl rfl ?_
          refine ew_aload_n (t := 35) dX0_held_34 rfl rfl rfl ?_
          refine ew_get (t := 38) (j := 20) (v := .ref 28) fcX0 x1 (Nat.le_of_ble_eq_true rfl) q282 rfl dX0_held_35 rfl ?_
          refine ew_iload_n (t := 39) dX0_held_38 rfl rfl rfl ?_
          refine ew_aald6 (t := 40) (j := t) sh.1 (vp_in_nI (by omega) (by omega)) (nI_clamp (by omega)) dX0_held_39 rfl ?_
          refine ew_iload_n (t := 41) dX0_held_40 rfl rfl rfl ?_
          refine ew_callV (t := 44) (As := [_, _]) (xf_isKnown (f := f) (IT := F 61) (b0 := 16 * t + bb) hn x1 x16 xt wk sc (show 29 + t < n by omega) q6 q1 q2 q7 q8 (by omega) (fun j hj => hI j (by omega))) (fcX0).1 x1 (lw_V q823 q825 qs27 q51 q826) rfl naX0_isKnown dX0_held_41 rfl (Nat.le_of_ble_eq_true rfl) (Nat.le_of_ble_eq_true rfl) (by omega) (by omega) (Nat.le_of_ble_eq_true rfl) rfl (fun rr h1 n1 qq => ?_)
          obtain ⟨rfl, y2, y3, y4, s1, y1, y5⟩ := qq
          have xt1 : XT F h1 := xt.mv (fun k h1 h2 => y3 k (by omega) (by omega))
          refine ew_if_eq (t := 61) (t2 := 47) dX0_held_44 rfl rfl (fun c_44 => ?_) (fun c_44 => ?_)
          · refine ew_bipush (t := 63) (v := (-2)) dX0_held_61 (by decide) rfl ?_
            exact ew_iret rfl dX0_held_63 (by decide) (by decide) (by unfold hldF; rw [if_neg c_4, if_pos c_11, nI_clamp (n := t) (by omega), if_pos c_27, nI_clamp (n := bb) (by omega), if_neg (not_not_intro c_44)]; exact ⟨rfl, y2, y3, y4, s1, y1, y5⟩)
          · refine ew_aload_n (t := 48) dX0_held_47 rfl rfl rfl ?_
            refine ew_aload_n (t := 49) dX0_held_48 rfl rfl rfl ?_
            refine ew_get (t := 52) (j := 20) (v := .ref 28) fcX0 y1 (Nat.le_of_ble_eq_true rfl) q282 rfl dX0_held_49 rfl ?_
            refine ew_iload_n (t := 53) dX0_held_52 rfl rfl rfl ?_
            refine ew_aald6 (t := 54) (j := t) ((y3 28 (by omega) (by omega)).trans sh.1) (vp_in_nI (by omega) (by omega)) (nI_clamp (by omega)) dX0_held_53 rfl ?_
            refine ew_iload_n (t := 55) dX0_held_54 rfl rfl rfl ?_
            obtain ⟨ce1, y16⟩ := y4.2.2.2.1
            have hc := knA_all (I := F 61) (b := 16 * t + bb) (allW F 127 0 0 a b H T S U) 0 _ (wk_en wk (f := F 35) F) c_44
            refine ew_callV (t := 58) (As := [_, _]) (xf_heldBy (f := f) (IT := F 61) (b0 := 16 * t + bb) (SN := S2 (hdR (F 35) (F 61) a (16 * t + bb) H 6)) (Nat.le_trans hn y2) y1 y16 xt1 wk y4 (by omega) q5 q1 q2 ((y3 (29 + t) (by omega) (by omega)).trans q7) ((y3 (rr t) q6 (by omega)).trans q8) (by omega) hI hc (by omega) (by omega) (hE2 _ (okR_hd wk.2.2.2.2.2.2.2.2.2.2.2.2.2.2.2.2.2 6))) (fcX0).1 y1 (lw_V q846 q848 qs28 q51 q849) rfl naX0_heldBy dX0_held_55 rfl (Nat.le_of_ble_eq_true rfl) (Nat.le_of_ble_eq_true rfl) (by omega) (by omega) (Nat.le_of_ble_eq_true rfl) rfl (fun rr2 h2 n2 qq => ?_)
            obtain ⟨rfl, z2, z3, z4, s2, z1, z5⟩ := qq
            refine ew_goto (t := 63) dX0_held_58 rfl ?_
            exact ew_iret rfl dX0_held_63 (by decide) (by decide) (by unfold hldF; rw [if_neg c_4, if_pos c_11, nI_clamp (n := t) (by omega), if_pos c_27, nI_clamp (n := bb) (by omega), if_pos c_44]; exact ⟨rfl, Nat.le_trans y2 z2, fun k k1 k2 => (z3 k (by omega) k2).trans (y3 k k1 k2), z4, s2, z1, z5.1.trans y5.1, z5.2.trans y5.2⟩)
      · refine ew_iload (t := 32) dX0_held_30 rfl rfl ?_
        exact ew_iret rfl dX0_held_32 (by decide) (by decide) (by unfold hldF; rw [if_neg c_4, if_pos c_11, nI_clamp (n := t) (by omega), if_neg c_27]; exact XQ.same x1 sc)
    · refine ew_icm1 (t := 15) dX0_held_14 rfl ?_
      exact ew_iret rfl dX0_held_15 (by decide) (by decide) (by unfold hldF; rw [if_neg c_4, if_neg (not_not_intro c_11)]; exact XQ.same x1 sc)
