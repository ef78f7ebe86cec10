-- Obj fields dict_keys(['cls', 'fun', 'sname', 'refs', 'extra', 'ups'])
/-! the component: goOn, slowAnd: all ways are told to a hearer till it says stop. A hearer's own state is x : σ, its cells lie in a heap hb with K x hb; tS says what a way does to it -/
set_option maxRecDepth 100000
def foldW {σ : Type} (tS : σ → WY → σ × Bool) : σ → List WY → σ × Bool
  | x, [] => (x, true)
  | x, w :: ws => if (tS x w).2 = true then foldW tS (tS x w).1 ws else ((tS x w).1, false)
theorem foldW_app {σ : Type} {tS : σ → WY → σ × Bool} : ∀ (a b : List WY) (x : σ), foldW tS x (a ++ b) = if (foldW tS x a).2 = true then foldW tS (foldW tS x a).1 b else ((foldW tS x a).1, false)
  | [], b, x => by rw [show foldW tS x [] = (x, true) from rfl, if_pos rfl]; rfl
  | w :: a, b, x => by
    show (if (tS x w).2 = true then foldW tS (tS x w).1 (a ++ b) else ((tS x w).1, false)) = _
    by_cases c : (tS x w).2 = true
    · rw [if_pos c, foldW_app a b, show foldW tS x (w :: a) = foldW tS (tS x w).1 a from if_pos c]
    · rw [if_neg c, show foldW tS x (w :: a) = ((tS x w).1, false) from if_neg c, if_neg (show ¬ (false = true) by decide)]
theorem foldW_1 {σ : Type} {tS : σ → WY → σ × Bool} {x : σ} {w : WY} : foldW tS x [w] = tS x w := by
  show (if (tS x w).2 = true then ((tS x w).1, true) else ((tS x w).1, false)) = _
  cases h : (tS x w).2 with
  | true => rw [if_pos rfl, ← h]
  | false => rw [if_neg (by decide), ← h]
abbrev XH (hb : AH) (s ce : Nat → Int32) : AH := hov hb [(1, XO s), (16, IA 7 ce)]
def KB {σ : Type} (K : σ → AH → Prop) (FS FF FT : Nat → Int32) : Prop := ∀ (x : σ) (hb : AH), K x hb → hb 2 = some TO0 ∧ hb 3 = some (IA 8 FS) ∧ hb 4 = some (IA 7 FF) ∧ hb 5 = some (IA 7 FT)
def GQ {σ : Type} (K : σ → AH → Prop) (tS : σ → WY → σ × Bool) (n : Nat) (x : σ) (s ce : Nat → Int32) (v : Nat) (ws : List WY) : Option Value → AH → Nat → Prop := fun r h' n' => n' = n ∧ r = some (.int (b2i (foldW tS x ws).2)) ∧ ∃ hb' ce', K (foldW tS x ws).1 hb' ∧ h' = XH hb' s ce' ∧ ∀ j, j ≤ v → ce' j = ce j
def XS (s : Nat → Int32) (wo any : Int32) (fu : Nat) (q : QD) : Prop := s 9 = nI q.1 ∧ s 10 = nI q.2.1 ∧ s 11 = nI q.2.2.1 ∧ s 12 = nI q.2.2.2 ∧ s 13 = nI fu ∧ s 14 = wo ∧ s 15 = any
def CFX (FS FF F35 : Nat → Int32) (wo any nr nt nf : Int32) (a H T S U : Nat) : Prop := FS 0 = nI a ∧ a < 100 ∧ FS 2 = nI H ∧ 0 < H ∧ H ≤ 6 ∧ FS 3 = nI T ∧ T ≤ 2 ∧ FS 4 = nI S ∧ S ≤ 1 ∧ FS 5 = nI U ∧ U < 1000 ∧ FLG wo any nr nt nf ∧ okR F35 ∧ FF = frX F35
def goW (F35 F36 : Nat → Int32) (nr nt nf : Int32) (a T S U r v : Nat) (nd : ND) (q : QD) : List WY := match goN F35 F36 nr nt nf a U v nd q with
  | none => []
  | some nd' => wyN F35 F36 nr nt nf a T S U r (v + 1) nd'
def slW (F35 F36 : Nat → Int32) (nr nt nf : Int32) (a T S U r v : Nat) (nd : ND) (q : QD) : List WY := match slN S q with
  | none => []
  | some q' => goW F35 F36 nr nt nf a T S U r v nd q'
/-- the contracts: telling, an hour on, slowed -/
def TLc (l : Launch) (G : GW) {σ : Type} (K : σ → AH → Prop) (tS : σ → WY → σ × Bool) (to n H : Nat) : Prop := ∀ (x : σ) (hb : AH) (s ce : Nat → Int32) (w : WY), K x hb → (∀ j, j ≤ H → ce j = nI (w.1 j) ∧ w.1 j < 100) → s 9 = nI w.2.1 → w.2.1 < 8 → s 11 = nI w.2.2.1 → w.2.2.1 < 3 → s 12 = nI w.2.2.2.1 → w.2.2.2.1 < 2 → w.2.2.2.2 ≤ 64 → AM l G yX0_tell cX0_tell 3 (some .boolean) 9 0 0 [.ref 1, .ref to, .int (nI (32 * w.2.2.2.2))] (XH hb s ce) n (fun r h' n' => n' = n ∧ r = some (.int (b2i (tS x w).2)) ∧ ∃ hb', K (tS x w).1 hb' ∧ h' = XH hb' s ce)
def GOc (l : Launch) (G : GW) {σ : Type} (K : σ → AH → Prop) (tS : σ → WY → σ × Bool) (to n : Nat) (F35 FT : Nat → Int32) (wo any nr nt nf : Int32) (a H T S U r : Nat) : Prop := ∀ (v : Nat) (nd : ND) (q : QD) (x : σ) (hb : AH) (s ce : Nat → Int32), K x hb → v + r + 1 = H → okN T S v nd → okQ T S q → (∀ j, j ≤ v → ce j = nI (nd.1 j)) → XS s wo any nd.2.2.2.2.2.1 q → AM l G yX0_goOn cX0_goOn 7 (some .boolean) (10 + 3 * r) 0 0 [.ref 1, .ref to, .int (nI v), .int (nI (32 * nd.2.2.2.2.2.2))] (XH hb s ce) n (GQ K tS n x s ce v (goW F35 FT nr nt nf a T S U r v nd q))
def SLc (l : Launch) (G : GW) {σ : Type} (K : σ → AH → Prop) (tS : σ → WY → σ × Bool) (to n : Nat) (F35 FT : Nat → Int32) (wo any nr nt nf : Int32) (a H T S U r : Nat) : Prop := ∀ (v : Nat) (nd : ND) (q : QD) (x : σ) (hb : AH) (s ce : Nat → Int32), K x hb → v + r + 1 = H → okN T S v nd → okQ T S q → (∀ j, j ≤ v → ce j = nI (nd.1 j)) → XS s wo any nd.2.2.2.2.2.1 q → AM l G yX0_slowAnd cX0_slowAnd 5 (some .boolean) (11 + 3 * r) 0 0 [.ref 1, .ref to, .int (nI v), .int (nI (32 * nd.2.2.2.2.2.2))] (XH hb s ce) n (GQ K tS n x s ce v (slW F35 FT nr nt nf a T S U r v nd q))
def CHc (l : Launch) (G : GW) {σ : Type} (K : σ → AH → Prop) (tS : σ → WY → σ × Bool) (to n : Nat) (F35 FT : Nat → Int32) (wo any nr nt nf : Int32) (a H T S U r : Nat) : Prop := ∀ (v : Nat) (nd : ND) (x : σ) (hb : AH) (s ce : Nat → Int32), K x hb → v + r + 1 = H → 0 < v → okN T S v nd → (∀ j, j ≤ v → ce j = nI (nd.1 j)) → XS s wo any nd.2.2.2.2.2.1 (nd.2.1, nd.2.2.1, nd.2.2.2.1, nd.2.2.2.2.1) → AM l G yX0_choose cX0_choose 7 (some .boolean) (12 + 3 * r) 0 0 [.ref 1, .ref to, .int (nI v), .int (nI (32 * nd.2.2.2.2.2.2))] (XH hb s ce) n (GQ K tS n x s ce v (wyN F35 FT nr nt nf a T S U (r + 1) v nd))
theorem rnN_n (F35 F36 : Nat → Int32) (nr nt : Int32) (a v : Nat) (nd : ND) (q : QD) : rnN F35 F36 nr nt a v nd q = nI (rnN F35 F36 nr nt a v nd q).toNatClampNeg ∧ (rnN F35 F36 nr nt a v nd q).toNatClampNeg ≤ 2 := by
  rcases ringI_3 nr (nI (v + 1)) nt (nI (awayF a (toN v nd q))) (nI (awayF a (nd.1 v))) (F36 (v + 1)) (F35 (v + 1)) with e | e | e
  · rw [show rnN F35 F36 nr nt a v nd q = 0 from e]; decide
  · rw [show rnN F35 F36 nr nt a v nd q = 1 from e]; decide
  · rw [show rnN F35 F36 nr nt a v nd q = 2 from e]; decide
theorem rc_0 {g rc : Nat} (hg : 0 < g) (h : 32 * (g * rc) < 2 ^ 31) (e : nI (32 * (g * rc)) = 0) : rc = 0 := by
  have h0 := congrArg Int32.toNatClampNeg e
  rw [nI_clamp h] at h0
  have h1 : 32 * (g * rc) = 0 := h0
  rcases Nat.mul_eq_zero.mp (show g * rc = 0 by omega) with z | z
  · omega
  · exact z
theorem b2i_if {b : Bool} : (if b2i b = 0 then (0 : Int32) else 1) = b2i b := by cases b <;> decide
theorem nI_sub2 (a b : Nat) : nI (a + b) - nI b = nI a := by rw [← nI_add]; exact Int32.add_sub_cancel _ _
set_option maxHeartbeats 600000 in
theorem ax_goOn0 {l : Launch} {G : GW} {σ : Type} {K : σ → AH → Prop} {tS : σ → WY → σ × Bool} {to n : Nat} {FS FF F35 FT : Nat → Int32} {wo any nr nt nf : Int32} {a H T S U : Nat} (kb : KB K FS FF FT) (cf : CFX FS FF F35 wo any nr nt nf a H T S U) (hT : TLc l G K tS to n H) : GOc l G K tS to n F35 FT wo any nr nt nf a H T S U 0 := by
  intro v nd q x hb s ce hk hv ok hq hce hx
  obtain ⟨c1, c2, c3, c4, c5, c6, c7, c8, c9, c10, c11, fl, okr, eFF⟩ := cf
  have hv6 : v < 6 := by omega
  have hfu := ok.2.2.2.2.2.2.1
  have hpp : q.2.1 * q.2.1 ≤ 3 * 3 := Nat.mul_le_mul hq.2.2.1 hq.2.2.1
  have hcv := ok.1 v (Nat.le_refl _)
  have h64 : 2 ^ v ≤ 2 ^ 6 := Nat.pow_le_pow_right (by omega) (by omega)
  have hrg := ok.2.2.2.2.2.2.2.2
  refine AM.of (L := [some (.ref 1), some (.ref to), some (.int (nI v)), some (.int (nI (32 * nd.2.2.2.2.2.2))), none, none, none]) (by decide) (Nat.le_of_ble_eq_true rfl) rfl ?_
  refine ew_aload_n (t := 1) dX0_goOn_0 rfl rfl rfl ?_
  refine ew_get (t := 4) (j := 8) (v := .ref 16) fcX0 rfl (Nat.le_of_ble_eq_true rfl) q267 rfl dX0_goOn_1 rfl ?_
  refine ew_iload_n (t := 5) dX0_goOn_4 rfl rfl rfl ?_
  refine ew_iald (t := 6) (j := v) (N := 7) rfl (vp_in_nI (by omega) (by omega)) (nI_clamp (by omega)) dX0_goOn_5 rfl ?_
  refine ew_aload_n (t := 7) dX0_goOn_6 rfl rfl rfl ?_
  refine ew_get (t := 10) (j := 9) (v := .int (s 9)) fcX0 rfl (Nat.le_of_ble_eq_true rfl) q269 rfl dX0_goOn_7 rfl ?_
  refine ew_aload_n (t := 11) dX0_goOn_10 rfl rfl rfl ?_
  refine ew_get (t := 14) (j := 10) (v := .int (s 10)) fcX0 rfl (Nat.le_of_ble_eq_true rfl) q270 rfl dX0_goOn_11 rfl ?_
  rw [hx.1, hx.2.1, hce v (Nat.le_refl _)]
  refine ew_callS (t := 17) (As := [_, _, _]) (ax_beyond _ _ (co := q.1) hq.1) (lw_S q429 q430 q51 q431) naX0_beyond dX0_goOn_14 rfl (Nat.le_of_ble_eq_true rfl) (Nat.le_of_ble_eq_true rfl) (Nat.le_refl _) (Nat.le_refl _) (Nat.le_of_ble_eq_true rfl) rfl (qi ?_)
  refine ew_istore (t := 19) (L' := [some (.ref 1), some (.ref to), some (.int (nI v)), some (.int (nI (32 * nd.2.2.2.2.2.2))), some (.int (goneF (nI (nd.1 v)) (nI q.1) (nI q.2.1))), none, none]) dX0_goOn_17 (Nat.le_of_ble_eq_true rfl) rfl rfl ?_
  refine ew_aload_n (t := 20) dX0_goOn_19 rfl rfl rfl ?_
  refine ew_dup (t := 21) dX0_goOn_20 rfl rfl ?_
  refine ew_get (t := 24) (j := 13) (v := .int (s 13)) fcX0 rfl (Nat.le_of_ble_eq_true rfl) q275 rfl dX0_goOn_21 rfl ?_
  refine ew_aload_n (t := 25) dX0_goOn_24 rfl rfl rfl ?_
  refine ew_get (t := 28) (j := 10) (v := .int (s 10)) fcX0 rfl (Nat.le_of_ble_eq_true rfl) q270 rfl dX0_goOn_25 rfl ?_
  refine ew_aload_n (t := 29) dX0_goOn_28 rfl rfl rfl ?_
  refine ew_get (t := 32) (j := 10) (v := .int (s 10)) fcX0 rfl (Nat.le_of_ble_eq_true rfl) q270 rfl dX0_goOn_29 rfl ?_
  refine ew_imul (t := 33) dX0_goOn_32 rfl ?_
  refine ew_iadd (t := 34) dX0_goOn_33 rfl ?_
  rw [hx.2.2.2.2.1, hx.2.1, pk_mul, nI_add]
  refine ew_put (t := 37) (j := 13) (fs' := XOf (upd s 13 (nI (nd.2.2.2.2.2.1 + (q.2.1 * q.2.1))))) (h' := (hov hb [(1, OB 0 (XOf (upd s 13 (nI (nd.2.2.2.2.2.1 + (q.2.1 * q.2.1)))))), (16, IA 7 ce)])) fcX0 rfl (Nat.le_of_ble_eq_true rfl) rfl q275 rfl rfl (Nat.le_of_ble_eq_true rfl) rfl dX0_goOn_34 (hov_up rfl) rfl ?_
  refine ew_ic1 (t := 38) dX0_goOn_37 rfl ?_
  refine ew_istore (t := 40) (L' := [some (.ref 1), some (.ref to), some (.int (nI v)), some (.int (nI (32 * nd.2.2.2.2.2.2))), some (.int (goneF (nI (nd.1 v)) (nI q.1) (nI q.2.1))), some (.int 1), none]) dX0_goOn_38 (Nat.le_of_ble_eq_true rfl) rfl rfl ?_
  refine ew_iload (t := 42) dX0_goOn_40 rfl rfl ?_
  refine ew_if_lt (t := 142) (t2 := 45) dX0_goOn_42 rfl rfl (fun c_42 => ?_) (fun c_42 => ?_)
  · refine ew_aload_n (t := 143) dX0_goOn_142 rfl rfl rfl ?_
    refine ew_dup (t := 144) dX0_goOn_143 rfl rfl ?_
    refine ew_get (t := 147) (j := 13) (v := .int (nI (nd.2.2.2.2.2.1 + (q.2.1 * q.2.1)))) fcX0 rfl (Nat.le_of_ble_eq_true rfl) q275 rfl dX0_goOn_144 rfl ?_
    refine ew_aload_n (t := 148) dX0_goOn_147 rfl rfl rfl ?_
    refine ew_get (t := 151) (j := 10) (v := .int (s 10)) fcX0 rfl (Nat.le_of_ble_eq_true rfl) q270 rfl dX0_goOn_148 rfl ?_
    refine ew_aload_n (t := 152) dX0_goOn_151 rfl rfl rfl ?_
    refine ew_get (t := 155) (j := 10) (v := .int (s 10)) fcX0 rfl (Nat.le_of_ble_eq_true rfl) q270 rfl dX0_goOn_152 rfl ?_
    refine ew_imul (t := 156) dX0_goOn_155 rfl ?_
    refine ew_isub (t := 157) dX0_goOn_156 rfl ?_
    rw [hx.2.1, pk_mul, nI_sub2]
    refine ew_put (t := 160) (j := 13) (fs' := XOf (upd s 13 (nI nd.2.2.2.2.2.1))) (h' := (hov hb [(1, OB 0 (XOf (upd s 13 (nI nd.2.2.2.2.2.1)))), (16, IA 7 ce)])) fcX0 rfl (Nat.le_of_ble_eq_true rfl) rfl q275 rfl rfl (Nat.le_of_ble_eq_true rfl) rfl dX0_goOn_157 (hov_up rfl) rfl ?_
    refine ew_iload (t := 162) dX0_goOn_160 rfl rfl ?_
    exact ew_zret rfl (by decide) dX0_goOn_162 (Nat.le_refl _) (Nat.le_refl _) (by have eg : goN F35 FT nr nt nf a U v nd q = none := if_pos c_42; unfold goW; rw [eg, upd_same hx.2.2.2.2.1]; exact ⟨rfl, rfl, hb, ce, hk, rfl, fun j _ => rfl⟩)
  · obtain ⟨b1, hb1, eb1⟩ := goneF_nn c_42
    have et : toN v nd q = b1 := by unfold toN; rw [eb1]; exact nI_clamp (by omega)
    have J70 : ¬ (nf = 0 ∧ U < nd.2.2.2.2.2.1 + (q.2.1 * q.2.1)) → EW l G yX0_goOn cX0_goOn 7 (some .boolean) 10 0 0 (GQ K tS n x s ce v (goW F35 FT nr nt nf a T S U 0 v nd q)) 0 0 (hov hb [(1, OB 0 (XOf (upd s 13 (nI (nd.2.2.2.2.2.1 + (q.2.1 * q.2.1)))))), (16, IA 7 ce)]) n 70 [some (.ref 1), some (.ref to), some (.int (nI v)), some (.int (nI (32 * nd.2.2.2.2.2.2))), some (.int (goneF (nI (nd.1 v)) (nI q.1) (nI q.2.1))), some (.int 1), none] [] := by
      intro hfl
      rw [eb1]
      refine ew_aload_n (t := 71) dX0_goOn_70 rfl rfl rfl ?_
      refine ew_get (t := 74) (j := 8) (v := .ref 16) fcX0 rfl (Nat.le_of_ble_eq_true rfl) q267 rfl dX0_goOn_71 rfl ?_
      refine ew_iload_n (t := 75) dX0_goOn_74 rfl rfl rfl ?_
      refine ew_ic1 (t := 76) dX0_goOn_75 rfl ?_
      refine ew_iadd (t := 77) dX0_goOn_76 rfl ?_
      refine ew_iload (t := 79) dX0_goOn_77 rfl rfl ?_
      refine ew_iast (t := 80) (j := (v + 1)) (N := 7) (h' := (hov hb [(1, OB 0 (XOf (upd s 13 (nI (nd.2.2.2.2.2.1 + (q.2.1 * q.2.1)))))), (16, IA 7 (upd ce (v + 1) (nI b1)))])) rfl (by rw [nI_1]; exact vp_in_nI (by omega) (by omega)) (by rw [nI_1]; exact nI_clamp (by omega)) dX0_goOn_79 (hov_up rfl) rfl ?_
      refine ew_iload_n (t := 81) dX0_goOn_80 rfl rfl rfl ?_
      refine ew_aload_n (t := 82) dX0_goOn_81 rfl rfl rfl ?_
      refine ew_iload_n (t := 83) dX0_goOn_82 rfl rfl rfl ?_
      refine ew_ic1 (t := 84) dX0_goOn_83 rfl ?_
      refine ew_iadd (t := 85) dX0_goOn_84 rfl ?_
      rw [nI_1 v]
      have ro := fun (l : Launch) (G : GW) => ax_ringOf (l := l) (G := G) (h := (hov hb [(1, OB 0 (XOf (upd s 13 (nI (nd.2.2.2.2.2.1 + (q.2.1 * q.2.1)))))), (16, IA 7 (upd ce (v + 1) (nI b1)))])) (n := n) (s := (upd s 13 (nI (nd.2.2.2.2.2.1 + (q.2.1 * q.2.1))))) (ce := (upd ce (v + 1) (nI b1))) (b0 := nd.1 v) (b1 := b1) (v := v) rfl (kb _ _ hk).1 (kb _ _ hk).2.1 (kb _ _ hk).2.2.1 (kb _ _ hk).2.2.2 rfl hv6 c1 c2 ((pk_un (by omega)).trans (hce v (Nat.le_refl _))) hcv pk_us hb1
      rw [show (upd s 13 (nI (nd.2.2.2.2.2.1 + (q.2.1 * q.2.1)))) 15 = any from hx.2.2.2.2.2.2, show (upd s 13 (nI (nd.2.2.2.2.2.1 + (q.2.1 * q.2.1)))) 14 = wo from hx.2.2.2.2.2.1, eFF, show frX F35 (v + 1) = (if F35 (v + 1) < 0 then -4 else F35 (v + 1)) from rfl, rgX_I fl hv6 awayF_le (okr (v + 1) (by omega)), show ringI nr (nI (v + 1)) nt (nI (awayF a b1)) (nI (awayF a (nd.1 v))) (FT (v + 1)) (F35 (v + 1)) = (rnN F35 FT nr nt a v nd q) from by unfold rnN; rw [et]] at ro
      refine ew_callV (t := 88) (As := [_]) (ro l G) (fcX0).1 rfl (lw_V q435 q437 qs12 q51 q438) rfl naX0_ringOf dX0_goOn_85 rfl (Nat.le_of_ble_eq_true rfl) (Nat.le_of_ble_eq_true rfl) (Nat.le_refl _) (Nat.le_refl _) (Nat.le_of_ble_eq_true rfl) rfl (qi ?_)
      refine ew_imul (t := 89) dX0_goOn_88 rfl ?_
      obtain ⟨hrn, hrc⟩ := rnN_n F35 FT nr nt a v nd q
      generalize hRC : (rnN F35 FT nr nt a v nd q).toNatClampNeg = rc at hrn hrc
      rw [show nI (32 * nd.2.2.2.2.2.2) * (rnN F35 FT nr nt a v nd q) = nI (32 * (nd.2.2.2.2.2.2 * rc)) from by rw [hrn, pk_mul, Nat.mul_assoc]]
      have hrr : nd.2.2.2.2.2.2 * rc ≤ 64 * 2 := Nat.mul_le_mul (by omega) hrc
      refine ew_istore (t := 91) (L' := [some (.ref 1), some (.ref to), some (.int (nI v)), some (.int (nI (32 * nd.2.2.2.2.2.2))), some (.int (nI b1)), some (.int 1), some (.int (nI (32 * (nd.2.2.2.2.2.2 * rc))))]) dX0_goOn_89 (Nat.le_of_ble_eq_true rfl) rfl rfl ?_
      refine ew_iload (t := 93) dX0_goOn_91 rfl rfl ?_
      refine ew_if_eq (t := 135) (t2 := 96) dX0_goOn_93 rfl rfl (fun c_93 => ?_) (fun c_93 => ?_)
      · refine ew_ic1 (t := 136) dX0_goOn_135 rfl ?_
        refine ew_goto (t := 140) dX0_goOn_136 rfl ?_
        refine ew_istore (t := 142) (L' := [some (.ref 1), some (.ref to), some (.int (nI v)), some (.int (nI (32 * nd.2.2.2.2.2.2))), some (.int (nI b1)), some (.int 1), some (.int (nI (32 * (nd.2.2.2.2.2.2 * rc))))]) dX0_goOn_140 (Nat.le_of_ble_eq_true rfl) rfl rfl ?_
        refine ew_aload_n (t := 143) dX0_goOn_142 rfl rfl rfl ?_
        refine ew_dup (t := 144) dX0_goOn_143 rfl rfl ?_
        refine ew_get (t := 147) (j := 13) (v := .int (nI (nd.2.2.2.2.2.1 + (q.2.1 * q.2.1)))) fcX0 rfl (Nat.le_of_ble_eq_true rfl) q275 rfl dX0_goOn_144 rfl ?_
        refine ew_aload_n (t := 148) dX0_goOn_147 rfl rfl rfl ?_
        refine ew_get (t := 151) (j := 10) (v := .int (s 10)) fcX0 rfl (Nat.le_of_ble_eq_true rfl) q270 rfl dX0_goOn_148 rfl ?_
        refine ew_aload_n (t := 152) dX0_goOn_151 rfl rfl rfl ?_
        refine ew_get (t := 155) (j := 10) (v := .int (s 10)) fcX0 rfl (Nat.le_of_ble_eq_true rfl) q270 rfl dX0_goOn_152 rfl ?_
        refine ew_imul (t := 156) dX0_goOn_155 rfl ?_
        refine ew_isub (t := 157) dX0_goOn_156 rfl ?_
        rw [hx.2.1, pk_mul, nI_sub2]
        refine ew_put (t := 160) (j := 13) (fs' := XOf (upd s 13 (nI nd.2.2.2.2.2.1))) (h' := (hov hb [(1, OB 0 (XOf (upd s 13 (nI nd.2.2.2.2.2.1)))), (16, IA 7 (upd ce (v + 1) (nI b1)))])) fcX0 rfl (Nat.le_of_ble_eq_true rfl) rfl q275 rfl rfl (Nat.le_of_ble_eq_true rfl) rfl dX0_goOn_157 (hov_up rfl) rfl ?_
        refine ew_iload (t := 162) dX0_goOn_160 rfl rfl ?_
        exact ew_zret rfl (by decide) dX0_goOn_162 (Nat.le_refl _) (Nat.le_refl _) (by have e0 : rc = 0 := rc_0 ok.2.2.2.2.2.2.2.1 (by omega) c_93; have eg : goN F35 FT nr nt nf a U v nd q = none := (by unfold goN; rw [if_neg c_42, if_neg hfl, if_pos (by rw [hrn, e0]; rfl)]); unfold goW; rw [eg, upd_same hx.2.2.2.2.1]; exact ⟨rfl, rfl, hb, _, hk, rfl, fun j hj => pk_un (by omega)⟩)
      · have hrc0 : ¬ (rnN F35 FT nr nt a v nd q) = 0 := fun z => c_93 (by have e0 : rc = 0 := (by rw [← hRC, z]; rfl); rw [e0, Nat.mul_zero, Nat.mul_zero]; rfl)
        have eg : goN F35 FT nr nt nf a U v nd q = some (nxN F35 FT nr nt a v nd q) := by unfold goN; rw [if_neg c_42, if_neg hfl, if_neg hrc0]
        have ok2 := okN_go ok hq eg
        have erg : (nxN F35 FT nr nt a v nd q).2.2.2.2.2.2 = nd.2.2.2.2.2.2 * rc := by show nd.2.2.2.2.2.2 * (rnN F35 FT nr nt a v nd q).toNatClampNeg = _; rw [hRC]
        have ecn : ∀ j, j ≤ v + 1 → (upd ce (v + 1) (nI b1)) j = nI ((nxN F35 FT nr nt a v nd q).1 j) := by
          intro j hj
          show (upd ce (v + 1) (nI b1)) j = nI (updN nd.1 (v + 1) (toN v nd q) j)
          by_cases ej : j = v + 1
          · rw [ej, pk_us, updN_us, et]
          · rw [pk_un ej, updN_un ej]; exact hce j (by omega)
        refine ew_iload_n (t := 97) dX0_goOn_96 rfl rfl rfl ?_
        refine ew_ic1 (t := 98) dX0_goOn_97 rfl ?_
        refine ew_iadd (t := 99) dX0_goOn_98 rfl ?_
        refine ew_aload_n (t := 100) dX0_goOn_99 rfl rfl rfl ?_
        refine ew_get (t := 103) (j := 0) (v := .ref 2) fcX0 rfl (Nat.le_of_ble_eq_true rfl) q255 rfl dX0_goOn_100 rfl ?_
        refine ew_callV (t := 106) (As := []) (ax_hours (kb _ _ hk).1 (kb _ _ hk).2.1) (fcX1).1 (kb _ _ hk).1 (lw_V q446 q447 q448 q52 q449) rfl naX1_hours dX0_goOn_103 rfl (Nat.le_of_ble_eq_true rfl) (Nat.le_of_ble_eq_true rfl) (Nat.le_refl _) (Nat.le_refl _) (Nat.le_of_ble_eq_true rfl) rfl (qi ?_)
        rw [c3]
        rw [nI_1 v]
        refine ew_icmp_ne (t := 122) (t2 := 109) dX0_goOn_106 rfl rfl (fun c_106 => ?_) (fun c_106 => ?_)
        · exact absurd (show nI (v + 1) = nI H by rw [show v + 1 = H by omega]) c_106
        · refine ew_aload_n (t := 110) dX0_goOn_109 rfl rfl rfl ?_
          refine ew_aload_n (t := 111) dX0_goOn_110 rfl rfl rfl ?_
          refine ew_iload (t := 113) dX0_goOn_111 rfl rfl ?_
          have tl := hT x hb (upd s 13 (nI (nd.2.2.2.2.2.1 + (q.2.1 * q.2.1)))) (upd ce (v + 1) (nI b1)) ((nxN F35 FT nr nt a v nd q).1, (nxN F35 FT nr nt a v nd q).2.1, (nxN F35 FT nr nt a v nd q).2.2.2.1, (nxN F35 FT nr nt a v nd q).2.2.2.2.1, (nxN F35 FT nr nt a v nd q).2.2.2.2.2.2) hk (fun j hj => ⟨ecn j (by omega), ok2.1 j (by omega)⟩) hx.1 hq.1 hx.2.2.1 (by show q.2.2.1 < 3; have := hq.2.2.2.1; omega) hx.2.2.2.1 (by show q.2.2.2 < 2; have := hq.2.2.2.2; omega) (by show (nxN F35 FT nr nt a v nd q).2.2.2.2.2.2 ≤ 64; have h1 := ok2.2.2.2.2.2.2.2.2; have h2 : 2 ^ (v + 1) ≤ 2 ^ 6 := Nat.pow_le_pow_right (by omega) (by omega); omega)
          rw [show nI (32 * (((nxN F35 FT nr nt a v nd q).1, (nxN F35 FT nr nt a v nd q).2.1, (nxN F35 FT nr nt a v nd q).2.2.2.1, (nxN F35 FT nr nt a v nd q).2.2.2.2.1, (nxN F35 FT nr nt a v nd q).2.2.2.2.2.2) : WY).2.2.2.2) = nI (32 * (nd.2.2.2.2.2.2 * rc)) from congrArg (fun z => nI (32 * z)) erg] at tl
          refine ew_callV (t := 116) (As := [_, _]) (tl) (fcX0).1 rfl (lw_V q450 q452 qs14 q51 q453) rfl naX0_tell dX0_goOn_113 rfl (Nat.le_of_ble_eq_true rfl) (Nat.le_of_ble_eq_true rfl) (Nat.le_refl _) (Nat.le_refl _) (Nat.le_of_ble_eq_true rfl) rfl (fun rr h1 n1 qq => ?_)
          obtain ⟨qn, rfl, hb1, hk1, rfl⟩ := qq
          replace qn := qn.symm
          subst qn
          have J140 : ∀ (j140_0 : Int32), j140_0 = ((if (b2i (tS x ((nxN F35 FT nr nt a v nd q).1, (nxN F35 FT nr nt a v nd q).2.1, (nxN F35 FT nr nt a v nd q).2.2.2.1, (nxN F35 FT nr nt a v nd q).2.2.2.2.1, (nxN F35 FT nr nt a v nd q).2.2.2.2.2.2)).2) = 0 then 0 else 1) : Int32) → EW l G yX0_goOn cX0_goOn 7 (some .boolean) 10 0 0 (GQ K tS n x s ce v (goW F35 FT nr nt nf a T S U 0 v nd q)) 0 0 (hov hb1 [(1, OB 0 (XOf (upd s 13 (nI (nd.2.2.2.2.2.1 + (q.2.1 * q.2.1)))))), (16, IA 7 (upd ce (v + 1) (nI b1)))]) n 140 [some (.ref 1), some (.ref to), some (.int (nI v)), some (.int (nI (32 * nd.2.2.2.2.2.2))), some (.int (nI b1)), some (.int 1), some (.int (nI (32 * (nd.2.2.2.2.2.2 * rc))))] [.int j140_0] := by
            intro j140_0 hj140_0
            rw [show j140_0 = (b2i (tS x ((nxN F35 FT nr nt a v nd q).1, (nxN F35 FT nr nt a v nd q).2.1, (nxN F35 FT nr nt a v nd q).2.2.2.1, (nxN F35 FT nr nt a v nd q).2.2.2.2.1, (nxN F35 FT nr nt a v nd q).2.2.2.2.2.2)).2) from hj140_0.trans b2i_if]
            refine ew_istore (t := 142) (L' := [some (.ref 1), some (.ref to), some (.int (nI v)), some (.int (nI (32 * nd.2.2.2.2.2.2))), some (.int (nI b1)), some (.int (b2i (tS x ((nxN F35 FT nr nt a v nd q).1, (nxN F35 FT nr nt a v nd q).2.1, (nxN F35 FT nr nt a v nd q).2.2.2.1, (nxN F35 FT nr nt a v nd q).2.2.2.2.1, (nxN F35 FT nr nt a v nd q).2.2.2.2.2.2)).2)), some (.int (nI (32 * (nd.2.2.2.2.2.2 * rc))))]) dX0_goOn_140 (Nat.le_of_ble_eq_true rfl) rfl rfl ?_
            refine ew_aload_n (t := 143) dX0_goOn_142 rfl rfl rfl ?_
            refine ew_dup (t := 144) dX0_goOn_143 rfl rfl ?_
            refine ew_get (t := 147) (j := 13) (v := .int (nI (nd.2.2.2.2.2.1 + (q.2.1 * q.2.1)))) fcX0 rfl (Nat.le_of_ble_eq_true rfl) q275 rfl dX0_goOn_144 rfl ?_
            refine ew_aload_n (t := 148) dX0_goOn_147 rfl rfl rfl ?_
            refine ew_get (t := 151) (j := 10) (v := .int (s 10)) fcX0 rfl (Nat.le_of_ble_eq_true rfl) q270 rfl dX0_goOn_148 rfl ?_
            refine ew_aload_n (t := 152) dX0_goOn_151 rfl rfl rfl ?_
            refine ew_get (t := 155) (j := 10) (v := .int (s 10)) fcX0 rfl (Nat.le_of_ble_eq_true rfl) q270 rfl dX0_goOn_152 rfl ?_
            refine ew_imul (t := 156) dX0_goOn_155 rfl ?_
            refine ew_isub (t := 157) dX0_goOn_156 rfl ?_
            rw [hx.2.1, pk_mul, nI_sub2]
            refine ew_put (t := 160) (j := 13) (fs' := XOf (upd s 13 (nI nd.2.2.2.2.2.1))) (h' := (hov hb1 [(1, OB 0 (XOf (upd s 13 (nI nd.2.2.2.2.2.1)))), (16, IA 7 (upd ce (v + 1) (nI b1)))])) fcX0 rfl (Nat.le_of_ble_eq_true rfl) rfl q275 rfl rfl (Nat.le_of_ble_eq_true rfl) rfl dX0_goOn_157 (hov_up rfl) rfl ?_
            refine ew_iload (t := 162) dX0_goOn_160 rfl rfl ?_
            exact ew_zret rfl (b2i_nar _) dX0_goOn_162 (Nat.le_refl _) (Nat.le_refl _) (by unfold goW; rw [eg, upd_same hx.2.2.2.2.1]; show GQ K tS n x s ce v [((nxN F35 FT nr nt a v nd q).1, (nxN F35 FT nr nt a v nd q).2.1, (nxN F35 FT nr nt a v nd q).2.2.2.1, (nxN F35 FT nr nt a v nd q).2.2.2.2.1, (nxN F35 FT nr nt a v nd q).2.2.2.2.2.2)] _ _ _; unfold GQ; rw [foldW_1]; exact ⟨rfl, rfl, hb1, _, hk1, rfl, fun j hj => pk_un (by omega)⟩)
          refine ew_if_eq (t := 139) (t2 := 119) dX0_goOn_116 rfl rfl (fun c_116 => ?_) (fun c_116 => ?_)
          · refine ew_ic0 (t := 140) dX0_goOn_139 rfl ?_
            exact J140 0 (by simp only [if_pos c_116])
          · refine ew_goto (t := 135) dX0_goOn_119 rfl ?_
            refine ew_ic1 (t := 136) dX0_goOn_135 rfl ?_
            refine ew_goto (t := 140) dX0_goOn_136 rfl ?_
            exact J140 1 (by simp only [if_neg c_116])
    refine ew_aload_n (t := 46) dX0_goOn_45 rfl rfl rfl ?_
    refine ew_get (t := 49) (j := 13) (v := .int (nI (nd.2.2.2.2.2.1 + (q.2.1 * q.2.1)))) fcX0 rfl (Nat.le_of_ble_eq_true rfl) q275 rfl dX0_goOn_46 rfl ?_
    refine ew_aload_n (t := 50) dX0_goOn_49 rfl rfl rfl ?_
    refine ew_get (t := 53) (j := 0) (v := .ref 2) fcX0 rfl (Nat.le_of_ble_eq_true rfl) q255 rfl dX0_goOn_50 rfl ?_
    refine ew_getN (t := 56) (j := 0) (v := .ref 3) fcX1 (kb _ _ hk).1 (Nat.le_of_ble_eq_true rfl) q127 rfl dX0_goOn_53 rfl ?_
    refine ew_ic5 (t := 57) dX0_goOn_56 rfl ?_
    refine ew_iald (t := 58) (j := 5) (N := 8) (kb _ _ hk).2.1 (vpI (by decide)) (by decide) dX0_goOn_57 rfl ?_
    rw [c10]
    refine ew_icmp_le (t := 70) (t2 := 61) dX0_goOn_58 rfl rfl (fun c_58 => ?_) (fun c_58 => ?_)
    · exact J70 (fun z => by have := (nI_leI (by omega) (by omega)).mp c_58; omega)
    · refine ew_aload_n (t := 62) dX0_goOn_61 rfl rfl rfl ?_
      refine ew_get (t := 65) (j := 14) (v := .int (s 14)) fcX0 rfl (Nat.le_of_ble_eq_true rfl) q276 rfl dX0_goOn_62 rfl ?_
      refine ew_bipush (t := 67) (v := 7) dX0_goOn_65 (by decide) rfl ?_
      refine ew_icmp_ne (t := 142) (t2 := 70) dX0_goOn_67 rfl rfl (fun c_67 => ?_) (fun c_67 => ?_)
      · refine ew_aload_n (t := 143) dX0_goOn_142 rfl rfl rfl ?_
        refine ew_dup (t := 144) dX0_goOn_143 rfl rfl ?_
        refine ew_get (t := 147) (j := 13) (v := .int (nI (nd.2.2.2.2.2.1 + (q.2.1 * q.2.1)))) fcX0 rfl (Nat.le_of_ble_eq_true rfl) q275 rfl dX0_goOn_144 rfl ?_
        refine ew_aload_n (t := 148) dX0_goOn_147 rfl rfl rfl ?_
        refine ew_get (t := 151) (j := 10) (v := .int (s 10)) fcX0 rfl (Nat.le_of_ble_eq_true rfl) q270 rfl dX0_goOn_148 rfl ?_
        refine ew_aload_n (t := 152) dX0_goOn_151 rfl rfl rfl ?_
        refine ew_get (t := 155) (j := 10) (v := .int (s 10)) fcX0 rfl (Nat.le_of_ble_eq_true rfl) q270 rfl dX0_goOn_152 rfl ?_
        refine ew_imul (t := 156) dX0_goOn_155 rfl ?_
        refine ew_isub (t := 157) dX0_goOn_156 rfl ?_
        rw [hx.2.1, pk_mul, nI_sub2]
        refine ew_put (t := 160) (j := 13) (fs' := XOf (upd s 13 (nI nd.2.2.2.2.2.1))) (h' := (hov hb [(1, OB 0 (XOf (upd s 13 (nI nd.2.2.2.2.2.1)))), (16, IA 7 ce)])) fcX0 rfl (Nat.le_of_ble_eq_true rfl) rfl q275 rfl rfl (Nat.le_of_ble_eq_true rfl) rfl dX0_goOn_157 (hov_up rfl) rfl ?_
        refine ew_iload (t := 162) dX0_goOn_160 rfl rfl ?_
        exact ew_zret rfl (by decide) dX0_goOn_162 (Nat.le_refl _) (Nat.le_refl _) (by have eg : goN F35 FT nr nt nf a U v nd q = none := (by unfold goN; rw [if_neg c_42, if_pos ⟨fl.2.2.mpr (fun z => c_67 (hx.2.2.2.2.2.1.trans z)), Nat.lt_of_not_le (fun z => c_58 (nI_le z (by omega)))⟩]); unfold goW; rw [eg, upd_same hx.2.2.2.2.1]; exact ⟨rfl, rfl, hb, ce, hk, rfl, fun j _ => rfl⟩)
      · exact J70 (fun z => fl.2.2.mp z.1 (hx.2.2.2.2.2.1.symm.trans c_67))
set_option maxHeartbeats 600000 in
theorem ax_goOnS {l : Launch} {G : GW} {σ : Type} {K : σ → AH → Prop} {tS : σ → WY → σ × Bool} {to n : Nat} {FS FF F35 FT : Nat → Int32} {wo any nr nt nf : Int32} {a H T S U r : Nat} (kb : KB K FS FF FT) (cf : CFX FS FF F35 wo any nr nt nf a H T S U) (ch : CHc l G K tS to n F35 FT wo any nr nt nf a H T S U r) : GOc l G K tS to n F35 FT wo any nr nt nf a H T S U (r + 1) := by
  intro v nd q x hb s ce hk hv ok hq hce hx
  obtain ⟨c1, c2, c3, c4, c5, c6, c7, c8, c9, c10, c11, fl, okr, eFF⟩ := cf
  have hv6 : v < 6 := by omega
  have hfu := ok.2.2.2.2.2.2.1
  have hpp : q.2.1 * q.2.1 ≤ 3 * 3 := Nat.mul_le_mul hq.2.2.1 hq.2.2.1
  have hcv := ok.1 v (Nat.le_refl _)
  have h64 : 2 ^ v ≤ 2 ^ 6 := Nat.pow_le_pow_right (by omega) (by omega)
  have hrg := ok.2.2.2.2.2.2.2.2
  refine AM.of (L := [some (.ref 1), some (.ref to), some (.int (nI v)), some (.int (nI (32 * nd.2.2.2.2.2.2))), none, none, none]) (by decide) (Nat.le_of_ble_eq_true rfl) rfl ?_
  refine ew_aload_n (t := 1) dX0_goOn_0 rfl rfl rfl ?_
  refine ew_get (t := 4) (j := 8) (v := .ref 16) fcX0 rfl (Nat.le_of_ble_eq_true rfl) q267 rfl dX0_goOn_1 rfl ?_
  refine ew_iload_n (t := 5) dX0_goOn_4 rfl rfl rfl ?_
  refine ew_iald (t := 6) (j := v) (N := 7) rfl (vp_in_nI (by omega) (by omega)) (nI_clamp (by omega)) dX0_goOn_5 rfl ?_
  refine ew_aload_n (t := 7) dX0_goOn_6 rfl rfl rfl ?_
  refine ew_get (t := 10) (j := 9) (v := .int (s 9)) fcX0 rfl (Nat.le_of_ble_eq_true rfl) q269 rfl dX0_goOn_7 rfl ?_
  refine ew_aload_n (t := 11) dX0_goOn_10 rfl rfl rfl ?_
  refine ew_get (t := 14) (j := 10) (v := .int (s 10)) fcX0 rfl (Nat.le_of_ble_eq_true rfl) q270 rfl dX0_goOn_11 rfl ?_
  rw [hx.1, hx.2.1, hce v (Nat.le_refl _)]
  refine ew_callS (t := 17) (As := [_, _, _]) (ax_beyond _ _ (co := q.1) hq.1) (lw_S q429 q430 q51 q431) naX0_beyond dX0_goOn_14 rfl (by omega) (Nat.le_of_ble_eq_true rfl) (Nat.le_refl _) (Nat.le_refl _) (Nat.le_of_ble_eq_true rfl) rfl (qi ?_)
  refine ew_istore (t := 19) (L' := [some (.ref 1), some (.ref to), some (.int (nI v)), some (.int (nI (32 * nd.2.2.2.2.2.2))), some (.int (goneF (nI (nd.1 v)) (nI q.1) (nI q.2.1))), none, none]) dX0_goOn_17 (Nat.le_of_ble_eq_true rfl) rfl rfl ?_
  refine ew_aload_n (t := 20) dX0_goOn_19 rfl rfl rfl ?_
  refine ew_dup (t := 21) dX0_goOn_20 rfl rfl ?_
  refine ew_get (t := 24) (j := 13) (v := .int (s 13)) fcX0 rfl (Nat.le_of_ble_eq_true rfl) q275 rfl dX0_goOn_21 rfl ?_
  refine ew_aload_n (t := 25) dX0_goOn_24 rfl rfl rfl ?_
  refine ew_get (t := 28) (j := 10) (v := .int (s 10)) fcX0 rfl (Nat.le_of_ble_eq_true rfl) q270 rfl dX0_goOn_25 rfl ?_
  refine ew_aload_n (t := 29) dX0_goOn_28 rfl rfl rfl ?_
  refine ew_get (t := 32) (j := 10) (v := .int (s 10)) fcX0 rfl (Nat.le_of_ble_eq_true rfl) q270 rfl dX0_goOn_29 rfl ?_
  refine ew_imul (t := 33) dX0_goOn_32 rfl ?_
  refine ew_iadd (t := 34) dX0_goOn_33 rfl ?_
  rw [hx.2.2.2.2.1, hx.2.1, pk_mul, nI_add]
  refine ew_put (t := 37) (j := 13) (fs' := XOf (upd s 13 (nI (nd.2.2.2.2.2.1 + (q.2.1 * q.2.1))))) (h' := (hov hb [(1, OB 0 (XOf (upd s 13 (nI (nd.2.2.2.2.2.1 + (q.2.1 * q.2.1)))))), (16, IA 7 ce)])) fcX0 rfl (Nat.le_of_ble_eq_true rfl) rfl q275 rfl rfl (Nat.le_of_ble_eq_true rfl) rfl dX0_goOn_34 (hov_up rfl) rfl ?_
  refine ew_ic1 (t := 38) dX0_goOn_37 rfl ?_
  refine ew_istore (t := 40) (L' := [some (.ref 1), some (.ref to), some (.int (nI v)), some (.int (nI (32 * nd.2.2.2.2.2.2))), some (.int (goneF (nI (nd.1 v)) (nI q.1) (nI q.2.1))), some (.int 1), none]) dX0_goOn_38 (Nat.le_of_ble_eq_true rfl) rfl rfl ?_
  refine ew_iload (t := 42) dX0_goOn_40 rfl rfl ?_
  refine ew_if_lt (t := 142) (t2 := 45) dX0_goOn_42 rfl rfl (fun c_42 => ?_) (fun c_42 => ?_)
  · refine ew_aload_n (t := 143) dX0_goOn_142 rfl rfl rfl ?_
    refine ew_dup (t := 144) dX0_goOn_143 rfl rfl ?_
    refine ew_get (t := 147) (j := 13) (v := .int (nI (nd.2.2.2.2.2.1 + (q.2.1 * q.2.1)))) fcX0 rfl (Nat.le_of_ble_eq_true rfl) q275 rfl dX0_goOn_144 rfl ?_
    refine ew_aload_n (t := 148) dX0_goOn_147 rfl rfl rfl ?_
    refine ew_get (t := 151) (j := 10) (v := .int (s 10)) fcX0 rfl (Nat.le_of_ble_eq_true rfl) q270 rfl dX0_goOn_148 rfl ?_
    refine ew_aload_n (t := 152) dX0_goOn_151 rfl rfl rfl ?_
    refine ew_get (t := 155) (j := 10) (v := .int (s 10)) fcX0 rfl (Nat.le_of_ble_eq_true rfl) q270 rfl dX0_goOn_152 rfl ?_
    refine ew_imul (t := 156) dX0_goOn_155 rfl ?_
    refine ew_isub (t := 157) dX0_goOn_156 rfl ?_
    rw [hx.2.1, pk_mul, nI_sub2]
    refine ew_put (t := 160) (j := 13) (fs' := XOf (upd s 13 (nI nd.2.2.2.2.2.1))) (h' := (hov hb [(1, OB 0 (XOf (upd s 13 (nI nd.2.2.2.2.2.1)))), (16, IA 7 ce)])) fcX0 rfl (Nat.le_of_ble_eq_true rfl) rfl q275 rfl rfl (Nat.le_of_ble_eq_true rfl) rfl dX0_goOn_157 (hov_up rfl) rfl ?_
    refine ew_iload (t := 162) dX0_goOn_160 rfl rfl ?_
    exact ew_zret rfl (by decide) dX0_goOn_162 (Nat.le_refl _) (Nat.le_refl _) (by have eg : goN F35 FT nr nt nf a U v nd q = none := if_pos c_42; unfold goW; rw [eg, upd_same hx.2.2.2.2.1]; exact ⟨rfl, rfl, hb, ce, hk, rfl, fun j _ => rfl⟩)
  · obtain ⟨b1, hb1, eb1⟩ := goneF_nn c_42
    have et : toN v nd q = b1 := by unfold toN; rw [eb1]; exact nI_clamp (by omega)
    have J70 : ¬ (nf = 0 ∧ U < nd.2.2.2.2.2.1 + (q.2.1 * q.2.1)) → EW l G yX0_goOn cX0_goOn 7 (some .boolean) (10 + 3 * (r + 1)) 0 0 (GQ K tS n x s ce v (goW F35 FT nr nt nf a T S U (r + 1) v nd q)) 0 0 (hov hb [(1, OB 0 (XOf (upd s 13 (nI (nd.2.2.2.2.2.1 + (q.2.1 * q.2.1)))))), (16, IA 7 ce)]) n 70 [some (.ref 1), some (.ref to), some (.int (nI v)), some (.int (nI (32 * nd.2.2.2.2.2.2))), some (.int (goneF (nI (nd.1 v)) (nI q.1) (nI q.2.1))), some (.int 1), none] [] := by
      intro hfl
      rw [eb1]
      refine ew_aload_n (t := 71) dX0_goOn_70 rfl rfl rfl ?_
      refine ew_get (t := 74) (j := 8) (v := .ref 16) fcX0 rfl (Nat.le_of_ble_eq_true rfl) q267 rfl dX0_goOn_71 rfl ?_
      refine ew_iload_n (t := 75) dX0_goOn_74 rfl rfl rfl ?_
      refine ew_ic1 (t := 76) dX0_goOn_75 rfl ?_
      refine ew_iadd (t := 77) dX0_goOn_76 rfl ?_
      refine ew_iload (t := 79) dX0_goOn_77 rfl rfl ?_
      refine ew_iast (t := 80) (j := (v + 1)) (N := 7) (h' := (hov hb [(1, OB 0 (XOf (upd s 13 (nI (nd.2.2.2.2.2.1 + (q.2.1 * q.2.1)))))), (16, IA 7 (upd ce (v + 1) (nI b1)))])) rfl (by rw [nI_1]; exact vp_in_nI (by omega) (by omega)) (by rw [nI_1]; exact nI_clamp (by omega)) dX0_goOn_79 (hov_up rfl) rfl ?_
      refine ew_iload_n (t := 81) dX0_goOn_80 rfl rfl rfl ?_
      refine ew_aload_n (t := 82) dX0_goOn_81 rfl rfl rfl ?_
      refine ew_iload_n (t := 83) dX0_goOn_82 rfl rfl rfl ?_
      refine ew_ic1 (t := 84) dX0_goOn_83 rfl ?_
      refine ew_iadd (t := 85) dX0_goOn_84 rfl ?_
      rw [nI_1 v]
      have ro := fun (l : Launch) (G : GW) => ax_ringOf (l := l) (G := G) (h := (hov hb [(1, OB 0 (XOf (upd s 13 (nI (nd.2.2.2.2.2.1 + (q.2.1 * q.2.1)))))), (16, IA 7 (upd ce (v + 1) (nI b1)))])) (n := n) (s := (upd s 13 (nI (nd.2.2.2.2.2.1 + (q.2.1 * q.2.1))))) (ce := (upd ce (v + 1) (nI b1))) (b0 := nd.1 v) (b1 := b1) (v := v) rfl (kb _ _ hk).1 (kb _ _ hk).2.1 (kb _ _ hk).2.2.1 (kb _ _ hk).2.2.2 rfl hv6 c1 c2 ((pk_un (by omega)).trans (hce v (Nat.le_refl _))) hcv pk_us hb1
      rw [show (upd s 13 (nI (nd.2.2.2.2.2.1 + (q.2.1 * q.2.1)))) 15 = any from hx.2.2.2.2.2.2, show (upd s 13 (nI (nd.2.2.2.2.2.1 + (q.2.1 * q.2.1)))) 14 = wo from hx.2.2.2.2.2.1, eFF, show frX F35 (v + 1) = (if F35 (v + 1) < 0 then -4 else F35 (v + 1)) from rfl, rgX_I fl hv6 awayF_le (okr (v + 1) (by omega)), show ringI nr (nI (v + 1)) nt (nI (awayF a b1)) (nI (awayF a (nd.1 v))) (FT (v + 1)) (F35 (v + 1)) = (rnN F35 FT nr nt a v nd q) from by unfold rnN; rw [et]] at ro
      refine ew_callV (t := 88) (As := [_]) (ro l G) (fcX0).1 rfl (lw_V q435 q437 qs12 q51 q438) rfl naX0_ringOf dX0_goOn_85 rfl (by omega) (Nat.le_of_ble_eq_true rfl) (Nat.le_refl _) (Nat.le_refl _) (Nat.le_of_ble_eq_true rfl) rfl (qi ?_)
      refine ew_imul (t := 89) dX0_goOn_88 rfl ?_
      obtain ⟨hrn, hrc⟩ := rnN_n F35 FT nr nt a v nd q
      generalize hRC : (rnN F35 FT nr nt a v nd q).toNatClampNeg = rc at hrn hrc
      rw [show nI (32 * nd.2.2.2.2.2.2) * (rnN F35 FT nr nt a v nd q) = nI (32 * (nd.2.2.2.2.2.2 * rc)) from by rw [hrn, pk_mul, Nat.mul_assoc]]
      have hrr : nd.2.2.2.2.2.2 * rc ≤ 64 * 2 := Nat.mul_le_mul (by omega) hrc
      refine ew_istore (t := 91) (L' := [some (.ref 1), some (.ref to), some (.int (nI v)), some (.int (nI (32 * nd.2.2.2.2.2.2))), some (.int (nI b1)), some (.int 1), some (.int (nI (32 * (nd.2.2.2.2.2.2 * rc))))]) dX0_goOn_89 (Nat.le_of_ble_eq_true rfl) rfl rfl ?_
      refine ew_iload (t := 93) dX0_goOn_91 rfl rfl ?_
      refine ew_if_eq (t := 135) (t2 := 96) dX0_goOn_93 rfl rfl (fun c_93 => ?_) (fun c_93 => ?_)
      · refine ew_ic1 (t := 136) dX0_goOn_135 rfl ?_
        refine ew_goto (t := 140) dX0_goOn_136 rfl ?_
        refine ew_istore (t := 142) (L' := [some (.ref 1), some (.ref to), some (.int (nI v)), some (.int (nI (32 * nd.2.2.2.2.2.2))), some (.int (nI b1)), some (.int 1), some (.int (nI (32 * (nd.2.2.2.2.2.2 * rc))))]) dX0_goOn_140 (Nat.le_of_ble_eq_true rfl) rfl rfl ?_
        refine ew_aload_n (t := 143) dX0_goOn_142 rfl rfl rfl ?_
        refine ew_dup (t := 144) dX0_goOn_143 rfl rfl ?_
        refine ew_get (t := 147) (j := 13) (v := .int (nI (nd.2.2.2.2.2.1 + (q.2.1 * q.2.1)))) fcX0 rfl (Nat.le_of_ble_eq_true rfl) q275 rfl dX0_goOn_144 rfl ?_
        refine ew_aload_n (t := 148) dX0_goOn_147 rfl rfl rfl ?_
        refine ew_get (t := 151) (j := 10) (v := .int (s 10)) fcX0 rfl (Nat.le_of_ble_eq_true rfl) q270 rfl dX0_goOn_148 rfl ?_
        refine ew_aload_n (t := 152) dX0_goOn_151 rfl rfl rfl ?_
        refine ew_get (t := 155) (j := 10) (v := .int (s 10)) fcX0 rfl (Nat.le_of_ble_eq_true rfl) q270 rfl dX0_goOn_152 rfl ?_
        refine ew_imul (t := 156) dX0_goOn_155 rfl ?_
        refine ew_isub (t := 157) dX0_goOn_156 rfl ?_
        rw [hx.2.1, pk_mul, nI_sub2]
        refine ew_put (t := 160) (j := 13) (fs' := XOf (upd s 13 (nI nd.2.2.2.2.2.1))) (h' := (hov hb [(1, OB 0 (XOf (upd s 13 (nI nd.2.2.2.2.2.1)))), (16, IA 7 (upd ce (v + 1) (nI b1)))])) fcX0 rfl (Nat.le_of_ble_eq_true rfl) rfl q275 rfl rfl (Nat.le_of_ble_eq_true rfl) rfl dX0_goOn_157 (hov_up rfl) rfl ?_
        refine ew_iload (t := 162) dX0_goOn_160 rfl rfl ?_
        exact ew_zret rfl (by decide) dX0_goOn_162 (Nat.le_refl _) (Nat.le_refl _) (by have e0 : rc = 0 := rc_0 ok.2.2.2.2.2.2.2.1 (by omega) c_93; have eg : goN F35 FT nr nt nf a U v nd q = none := (by unfold goN; rw [if_neg c_42, if_neg hfl, if_pos (by rw [hrn, e0]; rfl)]); unfold goW; rw [eg, upd_same hx.2.2.2.2.1]; exact ⟨rfl, rfl, hb, _, hk, rfl, fun j hj => pk_un (by omega)⟩)
      · have hrc0 : ¬ (rnN F35 FT nr nt a v nd q) = 0 := fun z => c_93 (by have e0 : rc = 0 := (by rw [← hRC, z]; rfl); rw [e0, Nat.mul_zero, Nat.mul_zero]; rfl)
        have eg : goN F35 FT nr nt nf a U v nd q = some (nxN F35 FT nr nt a v nd q) := by unfold goN; rw [if_neg c_42, if_neg hfl, if_neg hrc0]
        have ok2 := okN_go ok hq eg
        have erg : (nxN F35 FT nr nt a v nd q).2.2.2.2.2.2 = nd.2.2.2.2.2.2 * rc := by show nd.2.2.2.2.2.2 * (rnN F35 FT nr nt a v nd q).toNatClampNeg = _; rw [hRC]
        have ecn : ∀ j, j ≤ v + 1 → (upd ce (v + 1) (nI b1)) j = nI ((nxN F35 FT nr nt a v nd q).1 j) := by
          intro j hj
          show (upd ce (v + 1) (nI b1)) j = nI (updN nd.1 (v + 1) (toN v nd q) j)
          by_cases ej : j = v + 1
          · rw [ej, pk_us, updN_us, et]
          · rw [pk_un ej, updN_un ej]; exact hce j (by omega)
        refine ew_iload_n (t := 97) dX0_goOn_96 rfl rfl rfl ?_
        refine ew_ic1 (t := 98) dX0_goOn_97 rfl ?_
        refine ew_iadd (t := 99) dX0_goOn_98 rfl ?_
        refine ew_aload_n (t := 100) dX0_goOn_99 rfl rfl rfl ?_
        refine ew_get (t := 103) (j := 0) (v := .ref 2) fcX0 rfl (Nat.le_of_ble_eq_true rfl) q255 rfl dX0_goOn_100 rfl ?_
        refine ew_callV (t := 106) (As := []) (ax_hours (kb _ _ hk).1 (kb _ _ hk).2.1) (fcX1).1 (kb _ _ hk).1 (lw_V q446 q447 q448 q52 q449) rfl naX1_hours dX0_goOn_103 rfl (by omega) (Nat.le_of_ble_eq_true rfl) (Nat.le_refl _) (Nat.le_refl _) (Nat.le_of_ble_eq_true rfl) rfl (qi ?_)
        rw [c3]
        rw [nI_1 v]
        refine ew_icmp_ne (t := 122) (t2 := 109) dX0_goOn_106 rfl rfl (fun c_106 => ?_) (fun c_106 => ?_)
        · refine ew_aload_n (t := 123) dX0_goOn_122 rfl rfl rfl ?_
          refine ew_aload_n (t := 124) dX0_goOn_123 rfl rfl rfl ?_
          refine ew_iload_n (t := 125) dX0_goOn_124 rfl rfl rfl ?_
          refine ew_ic1 (t := 126) dX0_goOn_125 rfl ?_
          refine ew_iadd (t := 127) dX0_goOn_126 rfl ?_
          rw [nI_1 v]
          refine ew_iload (t := 129) dX0_goOn_127 rfl rfl ?_
          have cc := ch (v + 1) (nxN F35 FT nr nt a v nd q) x hb (upd s 13 (nI (nd.2.2.2.2.2.1 + (q.2.1 * q.2.1)))) (upd ce (v + 1) (nI b1)) hk (by omega) (by omega) ok2 ecn ⟨hx.1, hx.2.1, hx.2.2.1, hx.2.2.2.1, rfl, hx.2.2.2.2.2.1, hx.2.2.2.2.2.2⟩
          rw [erg] at cc
          refine ew_callV (t := 132) (As := [_, _, _]) (cc) (fcX0).1 rfl (lw_V q477 q479 qs15 q51 q480) rfl naX0_choose dX0_goOn_129 rfl (by omega) (Nat.le_of_ble_eq_true rfl) (Nat.le_refl _) (Nat.le_refl _) (Nat.le_of_ble_eq_true rfl) rfl (fun rr h1 n1 qq => ?_)
          obtain ⟨qn, rfl, hb1, ce2, hk1, rfl, hce2⟩ := qq
          replace qn := qn.symm
          subst qn
          have J140 : ∀ (j140_0 : Int32), j140_0 = ((if (b2i (foldW tS x (wyN F35 FT nr nt nf a T S U (r + 1) (v + 1) (nxN F35 FT nr nt a v nd q))).2) = 0 then 0 else 1) : Int32) → EW l G yX0_goOn cX0_goOn 7 (some .boolean) (10 + 3 * (r + 1)) 0 0 (GQ K tS n x s ce v (goW F35 FT nr nt nf a T S U (r + 1) v nd q)) 0 0 (hov hb1 [(1, OB 0 (XOf (upd s 13 (nI (nd.2.2.2.2.2.1 + (q.2.1 * q.2.1)))))), (16, IA 7 ce2)]) n 140 [some (.ref 1), some (.ref to), some (.int (nI v)), some (.int (nI (32 * nd.2.2.2.2.2.2))), some (.int (nI b1)), some (.int 1), some (.int (nI (32 * (nd.2.2.2.2.2.2 * rc))))] [.int j140_0] := by
            intro j140_0 hj140_0
            rw [show j140_0 = (b2i (foldW tS x (wyN F35 FT nr nt nf a T S U (r + 1) (v + 1) (nxN F35 FT nr nt a v nd q))).2) from hj140_0.trans b2i_if]
            refine ew_istore (t := 142) (L' := [some (.ref 1), some (.ref to), some (.int (nI v)), some (.int (nI (32 * nd.2.2.2.2.2.2))), some (.int (nI b1)), some (.int (b2i (foldW tS x (wyN F35 FT nr nt nf a T S U (r + 1) (v + 1) (nxN F35 FT nr nt a v nd q))).2)), some (.int (nI (32 * (nd.2.2.2.2.2.2 * rc))))]) dX0_goOn_140 (Nat.le_of_ble_eq_true rfl) rfl rfl ?_
            refine ew_aload_n (t := 143) dX0_goOn_142 rfl rfl rfl ?_
            refine ew_dup (t := 144) dX0_goOn_143 rfl rfl ?_
            refine ew_get (t := 147) (j := 13) (v := .int (nI (nd.2.2.2.2.2.1 + (q.2.1 * q.2.1)))) fcX0 rfl (Nat.le_of_ble_eq_true rfl) q275 rfl dX0_goOn_144 rfl ?_
            refine ew_aload_n (t := 148) dX0_goOn_147 rfl rfl rfl ?_
            refine ew_get (t := 151) (j := 10) (v := .int (s 10)) fcX0 rfl (Nat.le_of_ble_eq_true rfl) q270 rfl dX0_goOn_148 rfl ?_
            refine ew_aload_n (t := 152) dX0_goOn_151 rfl rfl rfl ?_
            refine ew_get (t := 155) (j := 10) (v := .int (s 10)) fcX0 rfl (Nat.le_of_ble_eq_true rfl) q270 rfl dX0_goOn_152 rfl ?_
            refine ew_imul (t := 156) dX0_goOn_155 rfl ?_
            refine ew_isub (t := 157) dX0_goOn_156 rfl ?_
            rw [hx.2.1, pk_mul, nI_sub2]
            refine ew_put (t := 160) (j := 13) (fs' := XOf (upd s 13 (nI nd.2.2.2.2.2.1))) (h' := (hov hb1 [(1, OB 0 (XOf (upd s 13 (nI nd.2.2.2.2.2.1)))), (16, IA 7 ce2)])) fcX0 rfl (Nat.le_of_ble_eq_true rfl) rfl q275 rfl rfl (Nat.le_of_ble_eq_true rfl) rfl dX0_goOn_157 (hov_up rfl) rfl ?_
            refine ew_iload (t := 162) dX0_goOn_160 rfl rfl ?_
            exact ew_zret rfl (b2i_nar _) dX0_goOn_162 (Nat.le_refl _) (Nat.le_refl _) (by unfold goW; rw [eg, upd_same hx.2.2.2.2.1]; exact ⟨rfl, rfl, hb1, _, hk1, rfl, fun j hj => (hce2 j (by omega)).trans (pk_un (by omega))⟩)
          refine ew_if_eq (t := 139) (t2 := 135) dX0_goOn_132 rfl rfl (fun c_132 => ?_) (fun c_132 => ?_)
          · refine ew_ic0 (t := 140) dX0_goOn_139 rfl ?_
            exact J140 0 (by simp only [if_pos c_132])
          · refine ew_ic1 (t := 136) dX0_goOn_135 rfl ?_
            refine ew_goto (t := 140) dX0_goOn_136 rfl ?_
            exact J140 1 (by simp only [if_neg c_132])
        · exact absurd (by have := congrArg Int32.toNatClampNeg c_106; rwa [nI_clamp (by omega), nI_clamp (by omega)] at this) (show ¬ v + 1 = H by omega)
    refine ew_aload_n (t := 46) dX0_goOn_45 rfl rfl rfl ?_
    refine ew_get (t := 49) (j := 13) (v := .int (nI (nd.2.2.2.2.2.1 + (q.2.1 * q.2.1)))) fcX0 rfl (Nat.le_of_ble_eq_true rfl) q275 rfl dX0_goOn_46 rfl ?_
    refine ew_aload_n (t := 50) dX0_goOn_49 rfl rfl rfl ?_
    refine ew_get (t := 53) (j := 0) (v := .ref 2) fcX0 rfl (Nat.le_of_ble_eq_true rfl) q255 rfl dX0_goOn_50 rfl ?_
    refine ew_getN (t := 56) (j := 0) (v := .ref 3) fcX1 (kb _ _ hk).1 (Nat.le_of_ble_eq_true rfl) q127 rfl dX0_goOn_53 rfl ?_
    refine ew_ic5 (t := 57) dX0_goOn_56 rfl ?_
    refine ew_iald (t := 58) (j := 5) (N := 8) (kb _ _ hk).2.1 (vpI (by decide)) (by decide) dX0_goOn_57 rfl ?_
    rw [c10]
    refine ew_icmp_le (t := 70) (t2 := 61) dX0_goOn_58 rfl rfl (fun c_58 => ?_) (fun c_58 => ?_)
    · exact J70 (fun z => by have := (nI_leI (by omega) (by omega)).mp c_58; omega)
    · refine ew_aload_n (t := 62) dX0_goOn_61 rfl rfl rfl ?_
      refine ew_get (t := 65) (j := 14) (v := .int (s 14)) fcX0 rfl (Nat.le_of_ble_eq_true rfl) q276 rfl dX0_goOn_62 rfl ?_
      refine ew_bipush (t := 67) (v := 7) dX0_goOn_65 (by decide) rfl ?_
      refine ew_icmp_ne (t := 142) (t2 := 70) dX0_goOn_67 rfl rfl (fun c_67 => ?_) (fun c_67 => ?_)
      · refine ew_aload_n (t := 143) dX0_goOn_142 rfl rfl rfl ?_
        refine ew_dup (t := 144) dX0_goOn_143 rfl rfl ?_
        refine ew_get (t := 147) (j := 13) (v := .int (nI (nd.2.2.2.2.2.1 + (q.2.1 * q.2.1)))) fcX0 rfl (Nat.le_of_ble_eq_true rfl) q275 rfl dX0_goOn_144 rfl ?_
        refine ew_aload_n (t := 148) dX0_goOn_147 rfl rfl rfl ?_
        refine ew_get (t := 151) (j := 10) (v := .int (s 10)) fcX0 rfl (Nat.le_of_ble_eq_true rfl) q270 rfl dX0_goOn_148 rfl ?_
        refine ew_aload_n (t := 152) dX0_goOn_151 rfl rfl rfl ?_
        refine ew_get (t := 155) (j := 10) (v := .int (s 10)) fcX0 rfl (Nat.le_of_ble_eq_true rfl) q270 rfl dX0_goOn_152 rfl ?_
        refine ew_imul (t := 156) dX0_goOn_155 rfl ?_
        refine ew_isub (t := 157) dX0_goOn_156 rfl ?_
        rw [hx.2.1, pk_mul, nI_sub2]
        refine ew_put (t := 160) (j := 13) (fs' := XOf (upd s 13 (nI nd.2.2.2.2.2.1))) (h' := (hov hb [(1, OB 0 (XOf (upd s 13 (nI nd.2.2.2.2.2.1)))), (16, IA 7 ce)])) fcX0 rfl (Nat.le_of_ble_eq_true rfl) rfl q275 rfl rfl (Nat.le_of_ble_eq_true rfl) rfl dX0_goOn_157 (hov_up rfl) rfl ?_
        refine ew_iload (t := 162) dX0_goOn_160 rfl rfl ?_
        exact ew_zret rfl (by decide) dX0_goOn_162 (Nat.le_refl _) (Nat.le_refl _) (by have eg : goN F35 FT nr nt nf a U v nd q = none := (by unfold goN; rw [if_neg c_42, if_pos ⟨fl.2.2.mpr (fun z => c_67 (hx.2.2.2.2.2.1.trans z)), Nat.lt_of_not_le (fun z => c_58 (nI_le z (by omega)))⟩]); unfold goW; rw [eg, upd_same hx.2.2.2.2.1]; exact ⟨rfl, rfl, hb, ce, hk, rfl, fun j _ => rfl⟩)
      · exact J70 (fun z => fl.2.2.mp z.1 (hx.2.2.2.2.2.1.symm.trans c_67))
set_option maxHeartbeats 600000 in
theorem ax_slowAnd {l : Launch} {G : GW} {σ : Type} {K : σ → AH → Prop} {tS : σ → WY → σ × Bool} {to n : Nat} {FS FF F35 FT : Nat → Int32} {wo any nr nt nf : Int32} {a H T S U r : Nat} (kb : KB K FS FF FT) (cf : CFX FS FF F35 wo any nr nt nf a H T S U) (go : GOc l G K tS to n F35 FT wo any nr nt nf a H T S U r) : SLc l G K tS to n F35 FT wo any nr nt nf a H T S U r := by
  intro v nd q x hb s ce hk hv ok hq hce hx
  obtain ⟨c1, c2, c3, c4, c5, c6, c7, c8, c9, c10, c11, fl, okr, eFF⟩ := cf
  obtain ⟨q1, q2, q3, q4, q5⟩ := id hq
  refine AM.of (L := [some (.ref 1), some (.ref to), some (.int (nI v)), some (.int (nI (32 * nd.2.2.2.2.2.2))), none]) (by decide) (Nat.le_of_ble_eq_true rfl) rfl ?_
  refine ew_aload_n (t := 1) dX0_slowAnd_0 rfl rfl rfl ?_
  refine ew_get (t := 4) (j := 12) (v := .int (s 12)) fcX0 rfl (Nat.le_of_ble_eq_true rfl) q274 rfl dX0_slowAnd_1 rfl ?_
  rw [hx.2.2.2.1]
  refine ew_if_ne (t := 27) (t2 := 7) dX0_slowAnd_4 rfl rfl (fun c_4 => ?_) (fun c_4 => ?_)
  · refine ew_ic1 (t := 28) dX0_slowAnd_27 rfl ?_
    exact ew_zret rfl (by decide) dX0_slowAnd_28 (Nat.le_refl _) (Nat.le_refl _) (by have es : slN S q = none := if_neg (fun z => c_4 (by rw [show q.2.2.2 = 0 by omega]; rfl)); unfold slW; rw [es]; exact ⟨rfl, rfl, hb, ce, hk, rfl, fun j _ => rfl⟩)
  · refine ew_aload_n (t := 8) dX0_slowAnd_7 rfl rfl rfl ?_
    refine ew_get (t := 11) (j := 10) (v := .int (s 10)) fcX0 rfl (Nat.le_of_ble_eq_true rfl) q270 rfl dX0_slowAnd_8 rfl ?_
    refine ew_ic1 (t := 12) dX0_slowAnd_11 rfl ?_
    rw [hx.2.1]
    refine ew_icmp_eq (t := 27) (t2 := 15) dX0_slowAnd_12 rfl rfl (fun c_12 => ?_) (fun c_12 => ?_)
    · refine ew_ic1 (t := 28) dX0_slowAnd_27 rfl ?_
      exact ew_zret rfl (by decide) dX0_slowAnd_28 (Nat.le_refl _) (Nat.le_refl _) (by have es : slN S q = none := if_neg (fun z => absurd z.2 (by have := congrArg Int32.toNatClampNeg c_12; rw [nI_clamp (by omega)] at this; have h1 : q.2.1 = 1 := this; omega)); unfold slW; rw [es]; exact ⟨rfl, rfl, hb, ce, hk, rfl, fun j _ => rfl⟩)
    · refine ew_aload_n (t := 16) dX0_slowAnd_15 rfl rfl rfl ?_
      refine ew_get (t := 19) (j := 0) (v := .ref 2) fcX0 rfl (Nat.le_of_ble_eq_true rfl) q255 rfl dX0_slowAnd_16 rfl ?_
      refine ew_getN (t := 22) (j := 0) (v := .ref 3) fcX1 (kb _ _ hk).1 (Nat.le_of_ble_eq_true rfl) q127 rfl dX0_slowAnd_19 rfl ?_
      refine ew_ic4 (t := 23) dX0_slowAnd_22 rfl ?_
      refine ew_iald (t := 24) (j := 4) (N := 8) (kb _ _ hk).2.1 (vpI (by decide)) (by decide) dX0_slowAnd_23 rfl ?_
      rw [c8]
      refine ew_if_ne (t := 29) (t2 := 27) dX0_slowAnd_24 rfl rfl (fun c_24 => ?_) (fun c_24 => ?_)
      · have hs0 : q.2.2.2 = 0 := by have := congrArg Int32.toNatClampNeg c_4; rwa [nI_clamp (by omega)] at this
        have hS1 : 0 < S := Nat.pos_of_ne_zero (fun e => c_24 (by rw [e]; rfl))
        have hp2 : 2 ≤ q.2.1 := by have : q.2.1 ≠ 1 := fun e => c_12 (by rw [e]; rfl); omega
        have es : slN S q = some (q.1, q.2.1 - 1, q.2.2.1, q.2.2.2 + 1) := if_pos ⟨by omega, hp2⟩
        refine ew_aload_n (t := 30) dX0_slowAnd_29 rfl rfl rfl ?_
        refine ew_ic1 (t := 31) dX0_slowAnd_30 rfl ?_
        refine ew_put (t := 34) (j := 12) (fs' := XOf (upd s 12 1)) (h' := (hov hb [(1, OB 0 (XOf (upd s 12 1))), (16, IA 7 ce)])) fcX0 rfl (Nat.le_of_ble_eq_true rfl) rfl q274 (by decide) (by decide) (Nat.le_of_ble_eq_true rfl) rfl dX0_slowAnd_31 (hov_up rfl) rfl ?_
        refine ew_aload_n (t := 35) dX0_slowAnd_34 rfl rfl rfl ?_
        refine ew_dup (t := 36) dX0_slowAnd_35 rfl rfl ?_
        refine ew_get (t := 39) (j := 10) (v := .int (s 10)) fcX0 rfl (Nat.le_of_ble_eq_true rfl) q270 rfl dX0_slowAnd_36 rfl ?_
        refine ew_ic1 (t := 40) dX0_slowAnd_39 rfl ?_
        refine ew_isub (t := 41) dX0_slowAnd_40 rfl ?_
        rw [hx.2.1, show nI q.2.1 - 1 = nI (q.2.1 - 1) from by rw [show q.2.1 = (q.2.1 - 1) + 1 by omega]; exact nI_pred _]
        refine ew_put (t := 44) (j := 10) (fs' := XOf (upd (upd s 10 (nI (q.2.1 - 1))) 12 1)) (h' := (hov hb [(1, OB 0 (XOf (upd (upd s 10 (nI (q.2.1 - 1))) 12 1))), (16, IA 7 ce)])) fcX0 rfl (Nat.le_of_ble_eq_true rfl) rfl q270 rfl rfl (Nat.le_of_ble_eq_true rfl) rfl dX0_slowAnd_41 (hov_up rfl) rfl ?_
        refine ew_aload_n (t := 45) dX0_slowAnd_44 rfl rfl rfl ?_
        refine ew_aload_n (t := 46) dX0_slowAnd_45 rfl rfl rfl ?_
        refine ew_iload_n (t := 47) dX0_slowAnd_46 rfl rfl rfl ?_
        refine ew_iload_n (t := 48) dX0_slowAnd_47 rfl rfl rfl ?_
        refine ew_callV (t := 51) (As := [_, _, _]) (go v nd (q.1, q.2.1 - 1, q.2.2.1, q.2.2.2 + 1) x hb (upd (upd s 10 (nI (q.2.1 - 1))) 12 1) ce hk hv ok ⟨q1, by show 1 ≤ q.2.1 - 1; omega, by show q.2.1 - 1 ≤ 3; omega, q4, by show q.2.2.2 + 1 ≤ S; omega⟩ hce ⟨hx.1, rfl, hx.2.2.1, by show (1 : Int32) = nI (q.2.2.2 + 1); rw [hs0]; rfl, hx.2.2.2.2.1, hx.2.2.2.2.2.1, hx.2.2.2.2.2.2⟩) (fcX0).1 rfl (lw_V q425 q427 qs11 q51 q428) rfl naX0_goOn dX0_slowAnd_48 rfl (by omega) (Nat.le_of_ble_eq_true rfl) (Nat.le_refl _) (Nat.le_refl _) (Nat.le_of_ble_eq_true rfl) rfl (fun rr h1 n1 qq => ?_)
        obtain ⟨qn, rfl, hb1, ce2, hk1, rfl, hce2⟩ := qq
        replace qn := qn.symm
        subst qn
        refine ew_istore (t := 53) (L' := [some (.ref 1), some (.ref to), some (.int (nI v)), some (.int (nI (32 * nd.2.2.2.2.2.2))), some (.int (b2i (foldW tS x (goW F35 FT nr nt nf a T S U r v nd (q.1, q.2.1 - 1, q.2.2.1, q.2.2.2 + 1))).2))]) dX0_slowAnd_51 (Nat.le_of_ble_eq_true rfl) rfl rfl ?_
        refine ew_aload_n (t := 54) dX0_slowAnd_53 rfl rfl rfl ?_
        refine ew_dup (t := 55) dX0_slowAnd_54 rfl rfl ?_
        refine ew_get (t := 58) (j := 10) (v := .int (nI (q.2.1 - 1))) fcX0 rfl (Nat.le_of_ble_eq_true rfl) q270 rfl dX0_slowAnd_55 rfl ?_
        refine ew_ic1 (t := 59) dX0_slowAnd_58 rfl ?_
        refine ew_iadd (t := 60) dX0_slowAnd_59 rfl ?_
        rw [show nI (q.2.1 - 1) + 1 = nI q.2.1 from by rw [nI_1]; congr 1; omega]
        refine ew_put (t := 63) (j := 10) (fs' := XOf (upd (upd s 10 (nI q.2.1)) 12 1)) (h' := (hov hb1 [(1, OB 0 (XOf (upd (upd s 10 (nI q.2.1)) 12 1))), (16, IA 7 ce2)])) fcX0 rfl (Nat.le_of_ble_eq_true rfl) rfl q270 rfl rfl (Nat.le_of_ble_eq_true rfl) rfl dX0_slowAnd_60 (hov_up rfl) rfl ?_
        refine ew_aload_n (t := 64) dX0_slowAnd_63 rfl rfl rfl ?_
        refine ew_ic0 (t := 65) dX0_slowAnd_64 rfl ?_
        refine ew_put (t := 68) (j := 12) (fs' := XOf (upd (upd s 10 (nI q.2.1)) 12 0)) (h' := (hov hb1 [(1, OB 0 (XOf (upd (upd s 10 (nI q.2.1)) 12 0))), (16, IA 7 ce2)])) fcX0 rfl (Nat.le_of_ble_eq_true rfl) rfl q274 (by decide) (by decide) (Nat.le_of_ble_eq_true rfl) rfl dX0_slowAnd_65 (hov_up rfl) rfl ?_
        refine ew_iload (t := 70) dX0_slowAnd_68 rfl rfl ?_
        exact ew_zret rfl (b2i_nar _) dX0_slowAnd_70 (Nat.le_refl _) (Nat.le_refl _) (by unfold slW; rw [es]; refine ⟨rfl, rfl, hb1, ce2, hk1, ?_, hce2⟩; rw [show upd (upd s 10 (nI q.2.1)) 12 0 = s from by rw [upd_same hx.2.1]; exact upd_same (hx.2.2.2.1.trans (by rw [hs0]; rfl))])
      · refine ew_ic1 (t := 28) dX0_slowAnd_27 rfl ?_
        exact ew_zret rfl (by decide) dX0_slowAnd_28 (Nat.le_refl _) (Nat.le_refl _) (by have es : slN S q = none := if_neg (fun z => absurd z.1 (by have := congrArg Int32.toNatClampNeg c_24; rw [nI_clamp (by omega)] at this; have h1 : S = 0 := this; omega)); unfold slW; rw [es]; exact ⟨rfl, rfl, hb, ce, hk, rfl, fun j _ => rfl⟩)
