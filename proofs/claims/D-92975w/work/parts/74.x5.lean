-- Obj fields dict_keys(['cls', 'fun', 'sname', 'refs', 'extra', 'ups'])
/-! the component: choose, goAll -/
set_option maxRecDepth 100000
section CHL
variable (F35 F36 : Nat → Int32) (nr nt nf : Int32) (a T S U r v : Nat) (nd : ND)
/-- the ways of the first codes of an hour, by courses -/
def chW (k : Nat) : List WY := (List.range (2 + 2 * k)).flatMap (wcN F35 F36 nr nt nf a T S U r v nd)
end CHL
section CHM
variable {F35 F36 : Nat → Int32} {nr nt nf : Int32} {a T S U r v : Nat} {nd : ND}
theorem chW_s (k : Nat) : chW F35 F36 nr nt nf a T S U r v nd (k + 1) = chW F35 F36 nr nt nf a T S U r v nd k ++ (wcN F35 F36 nr nt nf a T S U r v nd (2 + 2 * k) ++ wcN F35 F36 nr nt nf a T S U r v nd (2 + 2 * k + 1)) := by
  unfold chW
  rw [show 2 + 2 * (k + 1) = (2 + 2 * k + 1) + 1 by omega, List.range_succ, List.range_succ, List.flatMap_append, List.flatMap_append, List.append_assoc]
  simp only [List.flatMap_cons, List.flatMap_nil, List.append_nil]
theorem wc_0 (hv : 0 < v) : wcN F35 F36 nr nt nf a T S U r v nd 0 = goW F35 F36 nr nt nf a T S U r v nd (nd.2.1, nd.2.2.1, nd.2.2.2.1, nd.2.2.2.2.1) := by
  unfold wcN goW
  rw [show cdN T S v nd 0 = some (nd.2.1, nd.2.2.1, nd.2.2.2.1, nd.2.2.2.2.1) from by unfold cdN; rw [if_neg (by omega), if_pos (by omega), if_neg (by omega)]]
  rfl
theorem wc_1 (hv : 0 < v) : wcN F35 F36 nr nt nf a T S U r v nd 1 = slW F35 F36 nr nt nf a T S U r v nd (nd.2.1, nd.2.2.1, nd.2.2.2.1, nd.2.2.2.2.1) := by
  unfold wcN slW goW
  rw [show cdN T S v nd 1 = slN S (nd.2.1, nd.2.2.1, nd.2.2.2.1, nd.2.2.2.2.1) from by unfold cdN; rw [if_neg (by omega), if_pos (by omega), if_pos rfl]]
  cases slN S (nd.2.1, nd.2.2.1, nd.2.2.2.1, nd.2.2.2.2.1) <;> rfl
theorem wc_2 (hv : 0 < v) {k : Nat} (hk : ¬ k = nd.2.1) (ht : nd.2.2.2.1 < T) : wcN F35 F36 nr nt nf a T S U r v nd (2 + 2 * k) = goW F35 F36 nr nt nf a T S U r v nd (k, nd.2.2.1, nd.2.2.2.1 + 1, nd.2.2.2.2.1) := by
  unfold wcN goW
  rw [show cdN T S v nd (2 + 2 * k) = some (k, nd.2.2.1, nd.2.2.2.1 + 1, nd.2.2.2.2.1) from by unfold cdN; rw [if_neg (by omega), if_neg (by omega), show (2 + 2 * k) / 2 - 1 = k by omega, if_neg hk, if_pos ht, if_neg (by omega)]]
  rfl
theorem wc_3 (hv : 0 < v) {k : Nat} (hk : ¬ k = nd.2.1) (ht : nd.2.2.2.1 < T) : wcN F35 F36 nr nt nf a T S U r v nd (2 + 2 * k + 1) = slW F35 F36 nr nt nf a T S U r v nd (k, nd.2.2.1, nd.2.2.2.1 + 1, nd.2.2.2.2.1) := by
  unfold wcN slW goW
  rw [show cdN T S v nd (2 + 2 * k + 1) = slN S (k, nd.2.2.1, nd.2.2.2.1 + 1, nd.2.2.2.2.1) from by unfold cdN; rw [if_neg (by omega), if_neg (by omega), show (2 + 2 * k + 1) / 2 - 1 = k by omega, if_neg hk, if_pos ht, if_pos (by omega)]]
  cases slN S (k, nd.2.2.1, nd.2.2.2.1 + 1, nd.2.2.2.2.1) <;> rfl
theorem wc_no (hv : 0 < v) {k i : Nat} (hi : i < 2) (h : k = nd.2.1 ∨ T ≤ nd.2.2.2.1) : wcN F35 F36 nr nt nf a T S U r v nd (2 + 2 * k + i) = [] := by
  unfold wcN
  rw [show cdN T S v nd (2 + 2 * k + i) = none from by
    unfold cdN
    rw [if_neg (by omega), if_neg (by omega), show (2 + 2 * k + i) / 2 - 1 = k by omega]
    rcases h with h | h
    · rw [if_pos h]
    · by_cases hk : k = nd.2.1
      · rw [if_pos hk]
      · rw [if_neg hk, if_neg (by omega)]]
  rfl
theorem chW_no (hv : 0 < v) {k : Nat} (h : k = nd.2.1 ∨ T ≤ nd.2.2.2.1) : chW F35 F36 nr nt nf a T S U r v nd (k + 1) = chW F35 F36 nr nt nf a T S U r v nd k := by
  rw [chW_s, wc_no (i := 1) hv (by omega) h, show 2 + 2 * k = 2 + 2 * k + 0 from rfl, wc_no (i := 0) hv (by omega) h, List.append_nil, List.append_nil]
theorem chW_T (hv : 0 < v) (h : T ≤ nd.2.2.2.1) : ∀ d k, chW F35 F36 nr nt nf a T S U r v nd (k + d) = chW F35 F36 nr nt nf a T S U r v nd k
  | 0, k => rfl
  | d + 1, k => by rw [show k + (d + 1) = (k + d) + 1 by omega, chW_no hv (Or.inr h)]; exact chW_T hv h d k
theorem chW_app : ∀ d k, ∃ b, chW F35 F36 nr nt nf a T S U r v nd (k + d) = chW F35 F36 nr nt nf a T S U r v nd k ++ b
  | 0, k => ⟨[], (List.append_nil _).symm⟩
  | d + 1, k => by
    obtain ⟨b, hb⟩ := chW_app d k
    exact ⟨_, by rw [show k + (d + 1) = (k + d) + 1 by omega, chW_s, hb, List.append_assoc]⟩
end CHM
theorem foldW_stop {σ : Type} {tS : σ → WY → σ × Bool} {x : σ} {p b : List WY} (h : (foldW tS x p).2 = false) : foldW tS x (p ++ b) = foldW tS x p := by
  rw [foldW_app, if_neg (by rw [h]; decide), ← h]
theorem foldW_on {σ : Type} {tS : σ → WY → σ × Bool} {x : σ} {p b : List WY} (h : (foldW tS x p).2 = true) : foldW tS x (p ++ b) = foldW tS (foldW tS x p).1 b := by
  rw [foldW_app, if_pos h]
theorem nI_inj {p q : Nat} (hp : p < 2 ^ 31) (hq : q < 2 ^ 31) (e : nI p = nI q) : p = q := by
  have := congrArg Int32.toNatClampNeg e
  rwa [nI_clamp hp, nI_clamp hq] at this
set_option maxHeartbeats 600000 in
theorem lx_choose {l : Launch} {G : GW} {σ : Type} {K : σ → AH → Prop} {tS : σ → WY → σ × Bool} {to n : Nat} {FS FF F35 FT : Nat → Int32} {wo any nr nt nf : Int32} {a H T S U r : Nat} (kb : KB K FS FF FT) (cf : CFX FS FF F35 wo any nr nt nf a H T S U) (go : GOc l G K tS to n F35 FT wo any nr nt nf a H T S U r) (sl : SLc l G K tS to n F35 FT wo any nr nt nf a H T S U r) {v : Nat} {nd : ND} {x : σ} {s ce : Nat → Int32} (hv : v + r + 1 = H) (hv0 : 0 < v) (ok : okN T S v nd) (hce : ∀ j, j ≤ v → ce j = nI (nd.1 j)) (hx : XS s wo any nd.2.2.2.2.2.1 (nd.2.1, nd.2.2.1, nd.2.2.2.1, nd.2.2.2.2.1)) : ∀ (f k : Nat) (hb' : AH) (ce' : Nat → Int32) (cc : Int32), K (foldW tS x (chW F35 FT nr nt nf a T S U r v nd k)).1 hb' → k + f = 8 → (∀ j, j ≤ v → ce' j = ce j) → EW l G yX0_choose cX0_choose 7 (some .boolean) (12 + 3 * r) 0 0 (GQ K tS n x s ce v (wyN F35 FT nr nt nf a T S U (r + 1) v nd)) 0 0 (hov hb' [(1, OB 0 (XOf (upd s 9 cc))), (16, IA 7 ce')]) n 36 [some (.ref 1), some (.ref to), some (.int (nI v)), some (.int (nI (32 * nd.2.2.2.2.2.2))), some (.int (b2i (foldW tS x (chW F35 FT nr nt nf a T S U r v nd k)).2)), some (.int (nI nd.2.1)), some (.int (nI k))] [] := by
  intro f
  induction f with
  | zero =>
    intro k hb' ce' cc hk' hk hce'
    obtain ⟨c1, c2, c3, c4, c5, c6, c7, c8, c9, c10, c11, fl, okr, eFF⟩ := id cf
    obtain ⟨h0, h1, h2, h3, h4, h5, h6, h7, h8⟩ := id ok
    have eL : (wyN F35 FT nr nt nf a T S U (r + 1) v nd) = (chW F35 FT nr nt nf a T S U r v nd 8) := by rw [wyN_s, show ncN v = 2 + 2 * 8 from if_neg (by omega)]; rfl
    refine ew_iload (t := 38) dX0_choose_36 rfl rfl ?_
    refine ew_bipush (t := 40) (v := 8) dX0_choose_38 (by decide) rfl ?_
    refine ew_icmp_ge (t := 130) (t2 := 43) dX0_choose_40 rfl rfl (fun c_40 => ?_) (fun c_40 => ?_)
    · refine ew_aload_n (t := 131) dX0_choose_130 rfl rfl rfl ?_
      refine ew_iload (t := 133) dX0_choose_131 rfl rfl ?_
      refine ew_put (t := 136) (j := 9) (fs' := XOf (upd s 9 (nI nd.2.1))) (h' := (hov hb' [(1, OB 0 (XOf (upd s 9 (nI nd.2.1)))), (16, IA 7 ce')])) fcX0 rfl (Nat.le_of_ble_eq_true rfl) rfl q269 rfl rfl (Nat.le_of_ble_eq_true rfl) rfl dX0_choose_133 (hov_up rfl) rfl ?_
      refine ew_iload (t := 138) dX0_choose_136 rfl rfl ?_
      exact ew_zret rfl (b2i_nar _) dX0_choose_138 (Nat.le_refl _) (Nat.le_refl _) (by rw [show k = 8 by omega] at hk' ⊢; rw [upd_same hx.1, eL]; exact ⟨rfl, rfl, hb', ce', hk', rfl, hce'⟩)
    · exact absurd (show (8 : Int32) ≤ nI k by rw [show k = 8 by omega]; decide) c_40
  | succ f ih =>
    intro k hb' ce' cc hk' hk hce'
    obtain ⟨c1, c2, c3, c4, c5, c6, c7, c8, c9, c10, c11, fl, okr, eFF⟩ := id cf
    obtain ⟨h0, h1, h2, h3, h4, h5, h6, h7, h8⟩ := id ok
    have eL : (wyN F35 FT nr nt nf a T S U (r + 1) v nd) = (chW F35 FT nr nt nf a T S U r v nd 8) := by rw [wyN_s, show ncN v = 2 + 2 * 8 from if_neg (by omega)]; rfl
    refine ew_iload (t := 38) dX0_choose_36 rfl rfl ?_
    refine ew_bipush (t := 40) (v := 8) dX0_choose_38 (by decide) rfl ?_
    refine ew_icmp_ge (t := 130) (t2 := 43) dX0_choose_40 rfl rfl (fun c_40 => ?_) (fun c_40 => ?_)
    · exact absurd c_40 (nI_ge (b := 8) (by omega) (by omega))
    · refine ew_iload (t := 45) dX0_choose_43 rfl rfl ?_
      refine ew_if_eq (t := 130) (t2 := 48) dX0_choose_45 rfl rfl (fun c_45 => ?_) (fun c_45 => ?_)
      · refine ew_aload_n (t := 131) dX0_choose_130 rfl rfl rfl ?_
        refine ew_iload (t := 133) dX0_choose_131 rfl rfl ?_
        refine ew_put (t := 136) (j := 9) (fs' := XOf (upd s 9 (nI nd.2.1))) (h' := (hov hb' [(1, OB 0 (XOf (upd s 9 (nI nd.2.1)))), (16, IA 7 ce')])) fcX0 rfl (Nat.le_of_ble_eq_true rfl) rfl q269 rfl rfl (Nat.le_of_ble_eq_true rfl) rfl dX0_choose_133 (hov_up rfl) rfl ?_
        refine ew_iload (t := 138) dX0_choose_136 rfl rfl ?_
        exact ew_zret rfl (b2i_nar _) dX0_choose_138 (Nat.le_refl _) (Nat.le_refl _) (by obtain ⟨b, hb⟩ := chW_app (F35 := F35) (F36 := FT) (nr := nr) (nt := nt) (nf := nf) (a := a) (T := T) (S := S) (U := U) (r := r) (v := v) (nd := nd) (8 - k) k; rw [show k + (8 - k) = 8 by omega] at hb; rw [upd_same hx.1, eL, hb]; unfold GQ; rw [foldW_stop (b2i_0.mp c_45)]; exact ⟨rfl, rfl, hb', ce', hk', rfl, hce'⟩)
      · refine ew_aload_n (t := 49) dX0_choose_48 rfl rfl rfl ?_
        refine ew_get (t := 52) (j := 11) (v := .int (s 11)) fcX0 rfl (Nat.le_of_ble_eq_true rfl) q272 rfl dX0_choose_49 rfl ?_
        refine ew_aload_n (t := 53) dX0_choose_52 rfl rfl rfl ?_
        refine ew_get (t := 56) (j := 0) (v := .ref 2) fcX0 rfl (Nat.le_of_ble_eq_true rfl) q255 rfl dX0_choose_53 rfl ?_
        refine ew_getN (t := 59) (j := 0) (v := .ref 3) fcX1 (kb _ _ hk').1 (Nat.le_of_ble_eq_true rfl) q127 rfl dX0_choose_56 rfl ?_
        refine ew_ic3 (t := 60) dX0_choose_59 rfl ?_
        refine ew_iald (t := 61) (j := 3) (N := 8) (kb _ _ hk').2.1 (vpI (by decide)) (by decide) dX0_choose_60 rfl ?_
        rw [hx.2.2.1, c6]
        refine ew_icmp_ge (t := 130) (t2 := 64) dX0_choose_61 rfl rfl (fun c_61 => ?_) (fun c_61 => ?_)
        · refine ew_aload_n (t := 131) dX0_choose_130 rfl rfl rfl ?_
          refine ew_iload (t := 133) dX0_choose_131 rfl rfl ?_
          refine ew_put (t := 136) (j := 9) (fs' := XOf (upd s 9 (nI nd.2.1))) (h' := (hov hb' [(1, OB 0 (XOf (upd s 9 (nI nd.2.1)))), (16, IA 7 ce')])) fcX0 rfl (Nat.le_of_ble_eq_true rfl) rfl q269 rfl rfl (Nat.le_of_ble_eq_true rfl) rfl dX0_choose_133 (hov_up rfl) rfl ?_
          refine ew_iload (t := 138) dX0_choose_136 rfl rfl ?_
          exact ew_zret rfl (b2i_nar _) dX0_choose_138 (Nat.le_refl _) (Nat.le_refl _) (by have ht := chW_T (F35 := F35) (F36 := FT) (nr := nr) (nt := nt) (nf := nf) (a := a) (S := S) (U := U) (r := r) hv0 (show T ≤ nd.2.2.2.1 from (nI_leI (b := nd.2.2.2.1) (by omega) (by omega)).mp c_61) (8 - k) k; rw [show k + (8 - k) = 8 by omega] at ht; rw [upd_same hx.1, eL, ht]; exact ⟨rfl, rfl, hb', ce', hk', rfl, hce'⟩)
        · refine ew_iload (t := 66) dX0_choose_64 rfl rfl ?_
          refine ew_iload (t := 68) dX0_choose_66 rfl rfl ?_
          refine ew_icmp_eq (t := 124) (t2 := 71) dX0_choose_68 rfl rfl (fun c_68 => ?_) (fun c_68 => ?_)
          · refine ew_iinc (t := 127) (x := (nI k)) (v := ((nI k) + 1)) (L' := [some (.ref 1), some (.ref to), some (.int (nI v)), some (.int (nI (32 * nd.2.2.2.2.2.2))), some (.int (b2i (foldW tS x (chW F35 FT nr nt nf a T S U r v nd k)).2)), some (.int (nI nd.2.1)), some (.int ((nI k) + 1))]) dX0_choose_124 rfl rfl (Nat.le_of_ble_eq_true rfl) rfl rfl ?_
            refine ew_goto (t := 36) dX0_choose_127 rfl ?_
            rw [nI_1]
            have en : (chW F35 FT nr nt nf a T S U r v nd (k + 1)) = (chW F35 FT nr nt nf a T S U r v nd k) := chW_no hv0 (Or.inl (nI_inj (by omega) (by omega) c_68))
            rw [← en] at hk' ⊢
            exact ih (k + 1) hb' ce' cc hk' (by omega) hce'
          · have hX : (foldW tS x (chW F35 FT nr nt nf a T S U r v nd k)).2 = true := b2i_1.mp c_45
            have hkc : ¬ k = nd.2.1 := fun e => c_68 (by rw [e])
            have htT : nd.2.2.2.1 < T := Nat.lt_of_not_le (fun e => c_61 (nI_le (b := nd.2.2.2.1) e (by omega)))
            have e1 : (foldW tS x (chW F35 FT nr nt nf a T S U r v nd (k + 1))) = foldW tS (foldW tS x (chW F35 FT nr nt nf a T S U r v nd k)).1 ((goW F35 FT nr nt nf a T S U r v nd (k, nd.2.2.1, nd.2.2.2.1 + 1, nd.2.2.2.2.1)) ++ (slW F35 FT nr nt nf a T S U r v nd (k, nd.2.2.1, nd.2.2.2.1 + 1, nd.2.2.2.2.1))) := by rw [chW_s, wc_2 hv0 hkc htT, wc_3 hv0 hkc htT, foldW_on hX]
            have okq : okQ T S (k, nd.2.2.1, nd.2.2.2.1 + 1, nd.2.2.2.2.1) := ⟨by show k < 8; omega, h2, h3, htT, h5⟩
            have J112 : ∀ (Y : σ × Bool) (hb2 : AH) (ce2 : Nat → Int32), K Y.1 hb2 → (foldW tS x (chW F35 FT nr nt nf a T S U r v nd (k + 1))) = Y → (∀ j, j ≤ v → ce2 j = ce j) → EW l G yX0_choose cX0_choose 7 (some .boolean) (12 + 3 * r) 0 0 (GQ K tS n x s ce v (wyN F35 FT nr nt nf a T S U (r + 1) v nd)) 0 0 (hov hb2 [(1, OB 0 (XOf (upd (upd s 9 (nI k)) 11 (nI (nd.2.2.2.1 + 1))))), (16, IA 7 ce2)]) n 112 [some (.ref 1), some (.ref to), some (.int (nI v)), some (.int (nI (32 * nd.2.2.2.2.2.2))), some (.int (b2i (foldW tS x (chW F35 FT nr nt nf a T S U r v nd k)).2)), some (.int (nI nd.2.1)), some (.int (nI k))] [.int (b2i Y.2)] := by
              intro Y hb2 ce2 hk2 hY hce2
              refine ew_istore (t := 114) (L' := [some (.ref 1), some (.ref to), some (.int (nI v)), some (.int (nI (32 * nd.2.2.2.2.2.2))), some (.int (b2i Y.2)), some (.int (nI nd.2.1)), some (.int (nI k))]) dX0_choose_112 (Nat.le_of_ble_eq_true rfl) rfl rfl ?_
              refine ew_aload_n (t := 115) dX0_choose_114 rfl rfl rfl ?_
              refine ew_dup (t := 116) dX0_choose_115 rfl rfl ?_
              refine ew_get (t := 119) (j := 11) (v := .int (nI (nd.2.2.2.1 + 1))) fcX0 rfl (Nat.le_of_ble_eq_true rfl) q272 rfl dX0_choose_116 rfl ?_
              refine ew_ic1 (t := 120) dX0_choose_119 rfl ?_
              refine ew_isub (t := 121) dX0_choose_120 rfl ?_
              rw [show nI (nd.2.2.2.1 + 1) - 1 = nI nd.2.2.2.1 from nI_pred _]
              refine ew_put (t := 124) (j := 11) (fs' := XOf (upd (upd s 9 (nI k)) 11 (nI nd.2.2.2.1))) (h' := (hov hb2 [(1, OB 0 (XOf (upd (upd s 9 (nI k)) 11 (nI nd.2.2.2.1)))), (16, IA 7 ce2)])) fcX0 rfl (Nat.le_of_ble_eq_true rfl) rfl q272 rfl rfl (Nat.le_of_ble_eq_true rfl) rfl dX0_choose_121 (hov_up rfl) rfl ?_
              refine ew_iinc (t := 127) (x := (nI k)) (v := ((nI k) + 1)) (L' := [some (.ref 1), some (.ref to), some (.int (nI v)), some (.int (nI (32 * nd.2.2.2.2.2.2))), some (.int (b2i Y.2)), some (.int (nI nd.2.1)), some (.int ((nI k) + 1))]) dX0_choose_124 rfl rfl (Nat.le_of_ble_eq_true rfl) rfl rfl ?_
              refine ew_goto (t := 36) dX0_choose_127 rfl ?_
              rw [nI_1]
              subst hY
              refine EW.heap (h' := XH hb2 (upd s 9 (nI k)) ce2) (by rw [show upd (upd s 9 (nI k)) 11 (nI nd.2.2.2.1) = upd s 9 (nI k) from upd_same ((pk_un (by decide)).trans hx.2.2.1)]) ?_
              exact ih (k + 1) hb2 ce2 (nI k) hk2 (by omega) hce2
            refine ew_aload_n (t := 72) dX0_choose_71 rfl rfl rfl ?_
            refine ew_iload (t := 74) dX0_choose_72 rfl rfl ?_
            refine ew_put (t := 77) (j := 9) (fs' := XOf (upd s 9 (nI k))) (h' := (hov hb' [(1, OB 0 (XOf (upd s 9 (nI k)))), (16, IA 7 ce')])) fcX0 rfl (Nat.le_of_ble_eq_true rfl) rfl q269 rfl rfl (Nat.le_of_ble_eq_true rfl) rfl dX0_choose_74 (hov_up rfl) rfl ?_
            refine ew_aload_n (t := 78) dX0_choose_77 rfl rfl rfl ?_
            refine ew_dup (t := 79) dX0_choose_78 rfl rfl ?_
            refine ew_get (t := 82) (j := 11) (v := .int (s 11)) fcX0 rfl (Nat.le_of_ble_eq_true rfl) q272 rfl dX0_choose_79 rfl ?_
            refine ew_ic1 (t := 83) dX0_choose_82 rfl ?_
            refine ew_iadd (t := 84) dX0_choose_83 rfl ?_
            rw [hx.2.2.1, nI_1]
            refine ew_put (t := 87) (j := 11) (fs' := XOf (upd (upd s 9 (nI k)) 11 (nI (nd.2.2.2.1 + 1)))) (h' := (hov hb' [(1, OB 0 (XOf (upd (upd s 9 (nI k)) 11 (nI (nd.2.2.2.1 + 1))))), (16, IA 7 ce')])) fcX0 rfl (Nat.le_of_ble_eq_true rfl) rfl q272 rfl rfl (Nat.le_of_ble_eq_true rfl) rfl dX0_choose_84 (hov_up rfl) rfl ?_
            refine ew_aload_n (t := 88) dX0_choose_87 rfl rfl rfl ?_
            refine ew_aload_n (t := 89) dX0_choose_88 rfl rfl rfl ?_
            refine ew_iload_n (t := 90) dX0_choose_89 rfl rfl rfl ?_
            refine ew_iload_n (t := 91) dX0_choose_90 rfl rfl rfl ?_
            refine ew_callV (t := 94) (As := [_, _, _]) (go v nd (k, nd.2.2.1, nd.2.2.2.1 + 1, nd.2.2.2.2.1) (foldW tS x (chW F35 FT nr nt nf a T S U r v nd k)).1 hb' (upd (upd s 9 (nI k)) 11 (nI (nd.2.2.2.1 + 1))) ce' hk' hv ok okq (fun j hj => (hce' j hj).trans (hce j hj)) ⟨rfl, hx.2.1, rfl, hx.2.2.2.1, hx.2.2.2.2.1, hx.2.2.2.2.2.1, hx.2.2.2.2.2.2⟩) (fcX0).1 rfl (lw_V q425 q427 qs11 q51 q428) rfl naX0_goOn dX0_choose_91 rfl (by omega) (Nat.le_of_ble_eq_true rfl) (Nat.le_refl _) (Nat.le_refl _) (Nat.le_of_ble_eq_true rfl) rfl (fun rr h9 n9 qq => ?_)
            obtain ⟨qn, rfl, hb1, ce1, hk1, rfl, hce1'⟩ := qq
            replace qn := qn.symm
            subst qn
            have hce1 : ∀ j, j ≤ v → ce1 j = ce j := fun j hj => (hce1' j hj).trans (hce' j hj)
            refine ew_if_eq (t := 111) (t2 := 97) dX0_choose_94 rfl rfl (fun c_94 => ?_) (fun c_94 => ?_)
            · refine ew_ic0 (t := 112) dX0_choose_111 rfl ?_
              exact J112 ((foldW tS (foldW tS x (chW F35 FT nr nt nf a T S U r v nd k)).1 (goW F35 FT nr nt nf a T S U r v nd (k, nd.2.2.1, nd.2.2.2.1 + 1, nd.2.2.2.2.1))).1, false) hb1 ce1 hk1 (by rw [e1, foldW_app, if_neg (by rw [b2i_0.mp c_94]; decide)]) hce1
            · refine ew_aload_n (t := 98) dX0_choose_97 rfl rfl rfl ?_
              refine ew_aload_n (t := 99) dX0_choose_98 rfl rfl rfl ?_
              refine ew_iload_n (t := 100) dX0_choose_99 rfl rfl rfl ?_
              refine ew_iload_n (t := 101) dX0_choose_100 rfl rfl rfl ?_
              refine ew_callV (t := 104) (As := [_, _, _]) (sl v nd (k, nd.2.2.1, nd.2.2.2.1 + 1, nd.2.2.2.2.1) (foldW tS (foldW tS x (chW F35 FT nr nt nf a T S U r v nd k)).1 (goW F35 FT nr nt nf a T S U r v nd (k, nd.2.2.1, nd.2.2.2.1 + 1, nd.2.2.2.2.1))).1 hb1 (upd (upd s 9 (nI k)) 11 (nI (nd.2.2.2.1 + 1))) ce1 hk1 hv ok okq (fun j hj => (hce1 j hj).trans (hce j hj)) ⟨rfl, hx.2.1, rfl, hx.2.2.2.1, hx.2.2.2.2.1, hx.2.2.2.2.2.1, hx.2.2.2.2.2.2⟩) (fcX0).1 rfl (lw_V q481 q483 qs16 q51 q484) rfl naX0_slowAnd dX0_choose_101 rfl (by omega) (Nat.le_of_ble_eq_true rfl) (Nat.le_refl _) (Nat.le_refl _) (Nat.le_of_ble_eq_true rfl) rfl (fun rr h9 n9 qq => ?_)
              obtain ⟨qn, rfl, hb2, ce2, hk2, rfl, hce2⟩ := qq
              replace qn := qn.symm
              subst qn
              refine ew_if_eq (t := 111) (t2 := 107) dX0_choose_104 rfl rfl (fun c_104 => ?_) (fun c_104 => ?_)
              · refine ew_ic0 (t := 112) dX0_choose_111 rfl ?_
                exact J112 ((foldW tS (foldW tS (foldW tS x (chW F35 FT nr nt nf a T S U r v nd k)).1 (goW F35 FT nr nt nf a T S U r v nd (k, nd.2.2.1, nd.2.2.2.1 + 1, nd.2.2.2.2.1))).1 (slW F35 FT nr nt nf a T S U r v nd (k, nd.2.2.1, nd.2.2.2.1 + 1, nd.2.2.2.2.1))).1, false) hb2 ce2 hk2 (by rw [e1, foldW_on (b2i_1.mp c_94)]; exact Prod.ext rfl (b2i_0.mp c_104)) (fun j hj => (hce2 j hj).trans (hce1 j hj))
              · refine ew_ic1 (t := 108) dX0_choose_107 rfl ?_
                refine ew_goto (t := 112) dX0_choose_108 rfl ?_
                exact J112 ((foldW tS (foldW tS (foldW tS x (chW F35 FT nr nt nf a T S U r v nd k)).1 (goW F35 FT nr nt nf a T S U r v nd (k, nd.2.2.1, nd.2.2.2.1 + 1, nd.2.2.2.2.1))).1 (slW F35 FT nr nt nf a T S U r v nd (k, nd.2.2.1, nd.2.2.2.1 + 1, nd.2.2.2.2.1))).1, true) hb2 ce2 hk2 (by rw [e1, foldW_on (b2i_1.mp c_94)]; exact Prod.ext rfl (b2i_1.mp c_104)) (fun j hj => (hce2 j hj).trans (hce1 j hj))
set_option maxHeartbeats 600000 in
theorem ax_choose {l : Launch} {G : GW} {σ : Type} {K : σ → AH → Prop} {tS : σ → WY → σ × Bool} {to n : Nat} {FS FF F35 FT : Nat → Int32} {wo any nr nt nf : Int32} {a H T S U r : Nat} (kb : KB K FS FF FT) (cf : CFX FS FF F35 wo any nr nt nf a H T S U) (go : GOc l G K tS to n F35 FT wo any nr nt nf a H T S U r) (sl : SLc l G K tS to n F35 FT wo any nr nt nf a H T S U r) : CHc l G K tS to n F35 FT wo any nr nt nf a H T S U r := by
  intro v nd x hb s ce hk hv hv0 ok hce hx
  have okq : okQ T S (nd.2.1, nd.2.2.1, nd.2.2.2.1, nd.2.2.2.2.1) := ⟨ok.2.1, ok.2.2.1, ok.2.2.2.1, ok.2.2.2.2.1, ok.2.2.2.2.2.1⟩
  have e1 : (foldW tS x (chW F35 FT nr nt nf a T S U r v nd 0)) = foldW tS x ((goW F35 FT nr nt nf a T S U r v nd (nd.2.1, nd.2.2.1, nd.2.2.2.1, nd.2.2.2.2.1)) ++ (slW F35 FT nr nt nf a T S U r v nd (nd.2.1, nd.2.2.1, nd.2.2.2.1, nd.2.2.2.2.1))) := by
    rw [← wc_0 hv0, ← wc_1 hv0]
    show foldW tS x ((List.range 2).flatMap _) = _
    rw [show List.range 2 = [0, 1] from rfl, List.flatMap_cons, List.flatMap_cons, List.flatMap_nil, List.append_nil]
  refine AM.of (L := [some (.ref 1), some (.ref to), some (.int (nI v)), some (.int (nI (32 * nd.2.2.2.2.2.2))), none, none, none]) (by decide) (Nat.le_of_ble_eq_true rfl) rfl ?_
  have J25 : ∀ (Y : σ × Bool) (hb2 : AH) (ce2 : Nat → Int32), K Y.1 hb2 → (foldW tS x (chW F35 FT nr nt nf a T S U r v nd 0)) = Y → (∀ j, j ≤ v → ce2 j = ce j) → EW l G yX0_choose cX0_choose 7 (some .boolean) (12 + 3 * r) 0 0 (GQ K tS n x s ce v (wyN F35 FT nr nt nf a T S U (r + 1) v nd)) 0 0 (hov hb2 [(1, OB 0 (XOf s)), (16, IA 7 ce2)]) n 25 [some (.ref 1), some (.ref to), some (.int (nI v)), some (.int (nI (32 * nd.2.2.2.2.2.2))), none, none, none] [.int (b2i Y.2)] := by
    intro Y hb2 ce2 hk2 hY hce2
    refine ew_istore (t := 27) (L' := [some (.ref 1), some (.ref to), some (.int (nI v)), some (.int (nI (32 * nd.2.2.2.2.2.2))), some (.int (b2i Y.2)), none, none]) dX0_choose_25 (Nat.le_of_ble_eq_true rfl) rfl rfl ?_
    refine ew_aload_n (t := 28) dX0_choose_27 rfl rfl rfl ?_
    refine ew_get (t := 31) (j := 9) (v := .int (s 9)) fcX0 rfl (Nat.le_of_ble_eq_true rfl) q269 rfl dX0_choose_28 rfl ?_
    rw [hx.1]
    refine ew_istore (t := 33) (L' := [some (.ref 1), some (.ref to), some (.int (nI v)), some (.int (nI (32 * nd.2.2.2.2.2.2))), some (.int (b2i Y.2)), some (.int (nI nd.2.1)), none]) dX0_choose_31 (Nat.le_of_ble_eq_true rfl) rfl rfl ?_
    refine ew_ic0 (t := 34) dX0_choose_33 rfl ?_
    refine ew_istore (t := 36) (L' := [some (.ref 1), some (.ref to), some (.int (nI v)), some (.int (nI (32 * nd.2.2.2.2.2.2))), some (.int (b2i Y.2)), some (.int (nI nd.2.1)), some (.int 0)]) dX0_choose_34 (Nat.le_of_ble_eq_true rfl) rfl rfl ?_
    subst hY
    refine EW.heap (h' := XH hb2 (upd s 9 (s 9)) ce2) (by rw [upd_same (s := s) (k := 9) rfl]) ?_
    exact lx_choose kb cf go sl hv hv0 ok hce hx 8 0 hb2 ce2 (s 9) hk2 (by omega) hce2
  refine ew_aload_n (t := 1) dX0_choose_0 rfl rfl rfl ?_
  refine ew_aload_n (t := 2) dX0_choose_1 rfl rfl rfl ?_
  refine ew_iload_n (t := 3) dX0_choose_2 rfl rfl rfl ?_
  refine ew_iload_n (t := 4) dX0_choose_3 rfl rfl rfl ?_
  refine ew_callV (t := 7) (As := [_, _, _]) (go v nd (nd.2.1, nd.2.2.1, nd.2.2.2.1, nd.2.2.2.2.1) x hb s ce hk hv ok okq hce hx) (fcX0).1 rfl (lw_V q425 q427 qs11 q51 q428) rfl naX0_goOn dX0_choose_4 rfl (by omega) (Nat.le_of_ble_eq_true rfl) (Nat.le_refl _) (Nat.le_refl _) (Nat.le_of_ble_eq_true rfl) rfl (fun rr h9 n9 qq => ?_)
  obtain ⟨qn, rfl, hb1, ce1, hk1, rfl, hce1⟩ := qq
  replace qn := qn.symm
  subst qn
  refine ew_if_eq (t := 24) (t2 := 10) dX0_choose_7 rfl rfl (fun c_7 => ?_) (fun c_7 => ?_)
  · refine ew_ic0 (t := 25) dX0_choose_24 rfl ?_
    exact J25 ((foldW tS x (goW F35 FT nr nt nf a T S U r v nd (nd.2.1, nd.2.2.1, nd.2.2.2.1, nd.2.2.2.2.1))).1, false) hb1 ce1 hk1 (by rw [e1, foldW_app, if_neg (by rw [b2i_0.mp c_7]; decide)]) hce1
  · refine ew_aload_n (t := 11) dX0_choose_10 rfl rfl rfl ?_
    refine ew_aload_n (t := 12) dX0_choose_11 rfl rfl rfl ?_
    refine ew_iload_n (t := 13) dX0_choose_12 rfl rfl rfl ?_
    refine ew_iload_n (t := 14) dX0_choose_13 rfl rfl rfl ?_
    refine ew_callV (t := 17) (As := [_, _, _]) (sl v nd (nd.2.1, nd.2.2.1, nd.2.2.2.1, nd.2.2.2.2.1) (foldW tS x (goW F35 FT nr nt nf a T S U r v nd (nd.2.1, nd.2.2.1, nd.2.2.2.1, nd.2.2.2.2.1))).1 hb1 s ce1 hk1 hv ok okq (fun j hj => (hce1 j hj).trans (hce j hj)) hx) (fcX0).1 rfl (lw_V q481 q483 qs16 q51 q484) rfl naX0_slowAnd dX0_choose_14 rfl (by omega) (Nat.le_of_ble_eq_true rfl) (Nat.le_refl _) (Nat.le_refl _) (Nat.le_of_ble_eq_true rfl) rfl (fun rr h9 n9 qq => ?_)
    obtain ⟨qn, rfl, hb2, ce2, hk2, rfl, hce2⟩ := qq
    replace qn := qn.symm
    subst qn
    refine ew_if_eq (t := 24) (t2 := 20) dX0_choose_17 rfl rfl (fun c_17 => ?_) (fun c_17 => ?_)
    · refine ew_ic0 (t := 25) dX0_choose_24 rfl ?_
      exact J25 ((foldW tS (foldW tS x (goW F35 FT nr nt nf a T S U r v nd (nd.2.1, nd.2.2.1, nd.2.2.2.1, nd.2.2.2.2.1))).1 (slW F35 FT nr nt nf a T S U r v nd (nd.2.1, nd.2.2.1, nd.2.2.2.1, nd.2.2.2.2.1))).1, false) hb2 ce2 hk2 (by rw [e1, foldW_on (b2i_1.mp c_7)]; exact Prod.ext rfl (b2i_0.mp c_17)) (fun j hj => (hce2 j hj).trans (hce1 j hj))
    · refine ew_ic1 (t := 21) dX0_choose_20 rfl ?_
      refine ew_goto (t := 25) dX0_choose_21 rfl ?_
      exact J25 ((foldW tS (foldW tS x (goW F35 FT nr nt nf a T S U r v nd (nd.2.1, nd.2.2.1, nd.2.2.2.1, nd.2.2.2.2.1))).1 (slW F35 FT nr nt nf a T S U r v nd (nd.2.1, nd.2.2.1, nd.2.2.2.1, nd.2.2.2.2.1))).1, true) hb2 ce2 hk2 (by rw [e1, foldW_on (b2i_1.mp c_7)]; exact Prod.ext rfl (b2i_1.mp c_17)) (fun j hj => (hce2 j hj).trans (hce1 j hj))
/-- an hour on, from any hour -/
theorem ax_goOn {l : Launch} {G : GW} {σ : Type} {K : σ → AH → Prop} {tS : σ → WY → σ × Bool} {to n : Nat} {FS FF F35 FT : Nat → Int32} {wo any nr nt nf : Int32} {a H T S U : Nat} (kb : KB K FS FF FT) (cf : CFX FS FF F35 wo any nr nt nf a H T S U) (hT : TLc l G K tS to n H) : ∀ r, GOc l G K tS to n F35 FT wo any nr nt nf a H T S U r
  | 0 => ax_goOn0 kb cf hT
  | r + 1 => ax_goOnS kb cf (ax_choose kb cf (ax_goOn kb cf hT r) (ax_slowAnd kb cf (ax_goOn kb cf hT r)))
