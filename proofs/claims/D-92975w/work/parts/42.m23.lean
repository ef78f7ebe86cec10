/-! the reference: moved -/
set_option maxRecDepth 100000
def shA (w : Int32) (SN : Nat → Nat) (AN : Nat) (f : Nat → Int32) : Nat → Nat → Int32
  | 0 => f
  | k + 1 => upd (shA w SN AN f k) k (if w = 0 then 0 else thF (SN k) AN)
theorem shA_get {w : Int32} {SN : Nat → Nat} {AN : Nat} {f : Nat → Int32} {j : Nat} : ∀ k, j < k → shA w SN AN f k j = if w = 0 then 0 else thF (SN j) AN := by
  intro k
  induction k with
  | zero => intro h; omega
  | succ k ih =>
    intro h
    rw [shA]
    by_cases e : j = k
    · rw [e, pk_us]
    · rw [pk_un e]; exact ih (by omega)
def mvD (SN : Nat → Nat) (AN : Nat) (SH : Nat → Int32) : Nat → Int32
  | 0 => 0
  | k + 1 => mvD SN AN SH k + (if 0 ≤ thF (SN k) AN - SH k then thF (SN k) AN - SH k else - (thF (SN k) AN - SH k))
def fR (c : Int32) : Int32 := if 6 ≤ c then 0 else 2 <<< (c &&& 31)
def fT (c : Int32) : Int32 := b2i (decide (c = 6))
def fF (c : Int32) : Int32 := b2i (decide (c = 7))
def fP (c : Int32) : Int32 := if c ≤ 7 then 0 else if 12 ≤ c then 0 else 1 <<< ((c - 8) &&& 31)
def fD (c : Int32) : Int32 := b2i (decide (c = 12))
theorem ne01 {c d : Int32} : (if ¬ c = d then (0 : Int32) else 1) = b2i (decide (c = d)) := by
  by_cases h : c = d
  · rw [if_neg (not_not_intro h), decide_eq_true h]; rfl
  · rw [if_pos h, decide_eq_false h]; rfl
theorem p01_pos {A : Nat} (h : ¬ p01 (lN A) = 0) : 0 < A := Nat.pos_of_ne_zero (fun e => h (by rw [e]; rfl))
/-- how far shares move: SN AN as told, S1 A1 without -/
def mvF (SN : Nat → Nat) (AN : Nat) (S1 : Nat → Nat) (A1 : Nat) : Int32 := if p01 (lN AN) = 0 then (if ¬ p01 (lN AN) = p01 (lN A1) then 1000 else 0) else if ¬ lN A1 = 0 then mvD S1 A1 (fun j => thF (SN j) AN) 100 else (if ¬ p01 (lN AN) = p01 (lN A1) then 1000 else 0)
theorem mvD_congr {SN : Nat → Nat} {AN : Nat} {S T : Nat → Int32} : ∀ k, (∀ j, j < k → S j = T j) → mvD SN AN S k = mvD SN AN T k := by
  intro k
  induction k with
  | zero => intro _; rfl
  | succ k ih =>
    intro h
    rw [mvD, mvD, ih (fun j hj => h j (by omega)), h k (by omega)]
theorem suF_keep {F F' : Nat → Nat → Int32} {noP noD : Int32} {H g np nd : Nat} {ws : List WY} (e : ∀ k, perM k = true → F' k = F k) : suF F' noP noD H g np nd ws = suF F noP noD H g np nd ws := by
  unfold suF
  rw [e 52 rfl, e 37 rfl, e 38 rfl, e 53 rfl, e 54 rfl, e 34 rfl]
theorem alF_keep {F F' : Nat → Nat → Int32} {noP noD : Int32} {H g np nd : Nat} {ws : List WY} (e : ∀ k, perM k = true → F' k = F k) : alF F' noP noD H g np nd ws = alF F noP noD H g np nd ws := by
  unfold alF
  rw [e 52 rfl, e 37 rfl, e 38 rfl, e 53 rfl, e 54 rfl, e 34 rfl]
theorem MKc.keep {s s' : Nat → Int32} {F F' : Nat → Nat → Int32} {a H g np nd : Nat} (e : ∀ k, perM k = true → F' k = F k) (e5 : s' 25 = s 25) (e7 : s' 27 = s 27) (mk : MKc s F a H g np nd) : MKc s' F' a H g np nd := by
  unfold MKc at mk ⊢
  rw [e 34 rfl, e 52 rfl, e5, e7]
  exact mk

set_option maxHeartbeats 4000000 in
theorem lp_moved1 {l : Launch} {G : GW} {h : AH} {n : Nat} {s : Nat → Int32} {al : Int64} {F : Nat → Nat → Int32} {FL : Nat → Int64} {Q : Option Value → AH → Nat → Prop} (mc : MC s al F FL h) {SN : Nat → Nat} {AN : Nat} (hFL : ∀ j, j < 100 → FL j = lN (SN j)) (hSN : ∀ j, j < 100 → SN j < 2 ^ 50) (hal : al = lN AN) (hAN : AN < 2 ^ 50) {c w : Int32} {f0 : Nat → Int32} (hw : ¬ w = 0 → 0 < AN) (kk : EW l G yX4_moved cX4_moved 6 (some .int) 6 0 0 Q 0 0 (hov h [(56, IA 100 (shA w SN AN f0 100))]) n 57 [some (.ref 33), some (.int c), some (.int w), some (.int (nI 100)), none, none] []) : ∀ (f k : Nat), k + f = 100 → EW l G yX4_moved cX4_moved 6 (some .int) 6 0 0 Q 0 0 (hov h [(56, IA 100 (shA w SN AN f0 k))]) n 21 [some (.ref 33), some (.int c), some (.int w), some (.int (nI k)), none, none] [] := by
  intro f
  induction f with
  | zero =>
    intro k  hk
    refine ew_iload_n (t := 22) dX4_moved_21 rfl rfl rfl ?_
    refine ew_bipush (t := 24) (v := 100) dX4_moved_22 (by decide) rfl ?_
    refine ew_icmp_ge (t := 57) (t2 := 27) dX4_moved_24 rfl rfl (fun c_24 => ?_) (fun c_24 => ?_)
    · rw [show k = 100 by omega]
      exact kk
    · exact absurd (show (100 : Int32) ≤ nI k by rw [show k = 100 by omega]; decide) c_24
  | succ f ih =>
    intro k  hk
    refine ew_iload_n (t := 22) dX4_moved_21 rfl rfl rfl ?_
    refine ew_bipush (t := 24) (v := 100) dX4_moved_22 (by decide) rfl ?_
    refine ew_icmp_ge (t := 57) (t2 := 27) dX4_moved_24 rfl rfl (fun c_24 => ?_) (fun c_24 => ?_)
    · exact absurd c_24 (nI_ge (b := 100) (by omega) (by omega))
    · refine ew_aload_n (t := 28) dX4_moved_27 rfl rfl rfl ?_
      refine ew_get (t := 31) (j := 34) (v := .ref 56) fcX4 mc.1 (Nat.le_of_ble_eq_true rfl) q1055 rfl dX4_moved_28 rfl ?_
      refine ew_iload_n (t := 32) dX4_moved_31 rfl rfl rfl ?_
      refine ew_iload_n (t := 33) dX4_moved_32 rfl rfl rfl ?_
      have J50 : ∀ (j50_0 : Int32), j50_0 = ((if w = 0 then 0 else (thF (SN k) AN)) : Int32) → EW l G yX4_moved cX4_moved 6 (some .int) 6 0 0 Q 0 0 (hov h [(56, IA 100 (shA w SN AN f0 k))]) n 50 [some (.ref 33), some (.int c), some (.int w), some (.int (nI k)), none, none] [.int j50_0, .int (nI k), .ref 56] := by
        intro j50_0 hj50_0
        refine ew_iast (t := 51) (j := k) (N := 100) (h' := (hov h [(56, IA 100 (upd (shA w SN AN f0 k) k j50_0))])) rfl (vp_in_nI (by omega) (by omega)) (nI_clamp (by omega)) dX4_moved_50 (hov_up rfl) rfl ?_
        refine ew_iinc (t := 54) (x := (nI k)) (v := ((nI k) + 1)) (L' := [some (.ref 33), some (.int c), some (.int w), some (.int ((nI k) + 1)), none, none]) dX4_moved_51 rfl rfl (Nat.le_of_ble_eq_true rfl) rfl rfl ?_
        refine ew_goto (t := 21) dX4_moved_54 rfl ?_
        rw [nI_1]
        rw [show upd (shA w SN AN f0 k) k j50_0 = shA w SN AN f0 (k + 1) from by rw [hj50_0]; rfl]
        exact ih (k + 1) (by omega)
      refine ew_if_eq (t := 49) (t2 := 36) dX4_moved_33 rfl rfl (fun c_33 => ?_) (fun c_33 => ?_)
      · refine ew_ic0 (t := 50) dX4_moved_49 rfl ?_
        exact J50 0 (by simp only [if_pos c_33])
      · refine ew_aload_n (t := 37) dX4_moved_36 rfl rfl rfl ?_
        refine ew_aload_n (t := 38) dX4_moved_37 rfl rfl rfl ?_
        refine ew_get (t := 41) (j := 30) (v := .ref 55) fcX4 mc.1 (Nat.le_of_ble_eq_true rfl) q1051 rfl dX4_moved_38 rfl ?_
        refine ew_iload_n (t := 42) dX4_moved_41 rfl rfl rfl ?_
        refine ew_lald (t := 43) (j := k) (N := 100) mc.2.1 (vp_in_nI (by omega) (by omega)) (nI_clamp (by omega)) dX4_moved_42 rfl ?_
        rw [hFL k (by omega)]
        refine ew_callV (t := 46) (As := [_]) (am_thousandths (h := (hov h [(56, IA 100 (shA w SN AN f0 k))])) (x := SN k) (A := AN) mc.1 hal (hSN k (by omega)) (hw c_33) hAN) (fcX4).1 mc.1 (lw_V q1340 q1342 qs47 q60 q1343) rfl naX4_thousandths dX4_moved_43 rfl (Nat.le_of_ble_eq_true rfl) (Nat.le_of_ble_eq_true rfl) (Nat.le_refl _) (Nat.le_refl _) (Nat.le_of_ble_eq_true rfl) rfl (qi ?_)
        refine ew_goto (t := 50) dX4_moved_46 rfl ?_
        exact J50 (thF (SN k) AN) (by simp only [if_neg c_33])
set_option maxHeartbeats 4000000 in
theorem lp_moved2 {l : Launch} {G : GW} {h : AH} {n : Nat} {s : Nat → Int32} {al : Int64} {F : Nat → Nat → Int32} {FL : Nat → Int64} {Q : Option Value → AH → Nat → Prop} (mc : MC s al F FL h) {SN : Nat → Nat} {AN : Nat} (hFL : ∀ j, j < 100 → FL j = lN (SN j)) (hSN : ∀ j, j < 100 → SN j < 2 ^ 50) (hal : al = lN AN) (hAN : AN < 2 ^ 50) {c w : Int32} (hA0 : 0 < AN) (hq : Q (some (.int (mvD SN AN (F 56) 100))) h n) : ∀ (f k : Nat) (o5 : Option Value), k + f = 100 → EW l G yX4_moved cX4_moved 6 (some .int) 6 0 0 Q 0 0 h n 193 [some (.ref 33), some (.int c), some (.int w), some (.int (mvD SN AN (F 56) k)), some (.int (nI k)), o5] [] := by
  intro f
  induction f with
  | zero =>
    intro k o5 hk
    refine ew_iload (t := 195) dX4_moved_193 rfl rfl ?_
    refine ew_bipush (t := 197) (v := 100) dX4_moved_195 (by decide) rfl ?_
    refine ew_icmp_ge (t := 243) (t2 := 200) dX4_moved_197 rfl rfl (fun c_197 => ?_) (fun c_197 => ?_)
    · refine ew_iload_n (t := 244) dX4_moved_243 rfl rfl rfl ?_
      exact ew_iret rfl dX4_moved_244 (Nat.le_refl _) (Nat.le_refl _) (by rw [show k = 100 by omega]; exact hq)
    · exact absurd (show (100 : Int32) ≤ nI k by rw [show k = 100 by omega]; decide) c_197
  | succ f ih =>
    intro k o5 hk
    refine ew_iload (t := 195) dX4_moved_193 rfl rfl ?_
    refine ew_bipush (t := 197) (v := 100) dX4_moved_195 (by decide) rfl ?_
    refine ew_icmp_ge (t := 243) (t2 := 200) dX4_moved_197 rfl rfl (fun c_197 => ?_) (fun c_197 => ?_)
    · exact absurd c_197 (nI_ge (b := 100) (by omega) (by omega))
    · refine ew_aload_n (t := 201) dX4_moved_200 rfl rfl rfl ?_
      refine ew_aload_n (t := 202) dX4_moved_201 rfl rfl rfl ?_
      refine ew_get (t := 205) (j := 30) (v := .ref 55) fcX4 mc.1 (Nat.le_of_ble_eq_true rfl) q1051 rfl dX4_moved_202 rfl ?_
      refine ew_iload (t := 207) dX4_moved_205 rfl rfl ?_
      refine ew_lald (t := 208) (j := k) (N := 100) mc.2.1 (vp_in_nI (by omega) (by omega)) (nI_clamp (by omega)) dX4_moved_207 rfl ?_
      rw [hFL k (by omega)]
      refine ew_callV (t := 211) (As := [_]) (am_thousandths (h := h) (x := SN k) (A := AN) mc.1 hal (hSN k (by omega)) hA0 hAN) (fcX4).1 mc.1 (lw_V q1340 q1342 qs47 q60 q1343) rfl naX4_thousandths dX4_moved_208 rfl (Nat.le_of_ble_eq_true rfl) (Nat.le_of_ble_eq_true rfl) (Nat.le_refl _) (Nat.le_refl _) (Nat.le_of_ble_eq_true rfl) rfl (qi ?_)
      refine ew_aload_n (t := 212) dX4_moved_211 rfl rfl rfl ?_
      refine ew_get (t := 215) (j := 34) (v := .ref 56) fcX4 mc.1 (Nat.le_of_ble_eq_true rfl) q1055 rfl dX4_moved_212 rfl ?_
      refine ew_iload (t := 217) dX4_moved_215 rfl rfl ?_
      refine ew_iald (t := 218) (j := k) (N := 100) (mI mc 56 rfl) (vp_in_nI (by omega) (by omega)) (nI_clamp (by omega)) dX4_moved_217 rfl ?_
      refine ew_isub (t := 219) dX4_moved_218 rfl ?_
      refine ew_istore (t := 221) (L' := [some (.ref 33), some (.int c), some (.int w), some (.int (mvD SN AN (F 56) k)), some (.int (nI k)), some (.int ((thF (SN k) AN) - ((F 56) k)))]) dX4_moved_219 (Nat.le_of_ble_eq_true rfl) rfl rfl ?_
      refine ew_iload_n (t := 222) dX4_moved_221 rfl rfl rfl ?_
      refine ew_iload (t := 224) dX4_moved_222 rfl rfl ?_
      have J235 : ∀ (j235_0 : Int32), j235_0 = ((if 0 ≤ ((thF (SN k) AN) - ((F 56) k)) then ((thF (SN k) AN) - ((F 56) k)) else (-((thF (SN k) AN) - ((F 56) k)))) : Int32) → EW l G yX4_moved cX4_moved 6 (some .int) 6 0 0 Q 0 0 h n 235 [some (.ref 33), some (.int c), some (.int w), some (.int (mvD SN AN (F 56) k)), some (.int (nI k)), some (.int ((thF (SN k) AN) - ((F 56) k)))] [.int j235_0, .int (mvD SN AN (F 56) k)] := by
        intro j235_0 hj235_0
        refine ew_iadd (t := 236) dX4_moved_235 rfl ?_
        refine ew_istore_n (t := 237) (L' := [some (.ref 33), some (.int c), some (.int w), some (.int ((mvD SN AN (F 56) k) + j235_0)), some (.int (nI k)), some (.int ((thF (SN k) AN) - ((F 56) k)))]) dX4_moved_236 rfl (Nat.le_of_ble_eq_true rfl) rfl rfl ?_
        refine ew_iinc (t := 240) (x := (nI k)) (v := ((nI k) + 1)) (L' := [some (.ref 33), some (.int c), some (.int w), some (.int ((mvD SN AN (F 56) k) + j235_0)), some (.int ((nI k) + 1)), some (.int ((thF (SN k) AN) - ((F 56) k)))]) dX4_moved_237 rfl rfl (Nat.le_of_ble_eq_true rfl) rfl rfl ?_
        refine ew_goto (t := 193) dX4_moved_240 rfl ?_
        rw [nI_1]
        rw [show mvD SN AN (F 56) k + j235_0 = mvD SN AN (F 56) (k + 1) from by rw [hj235_0]; rfl]
        exact ih (k + 1) _ (by omega)
      refine ew_if_ge (t := 233) (t2 := 227) dX4_moved_224 rfl rfl (fun c_224 => ?_) (fun c_224 => ?_)
      · refine ew_iload (t := 235) dX4_moved_233 rfl rfl ?_
        exact J235 ((thF (SN k) AN) - ((F 56) k)) (by simp only [if_pos c_224])
      · refine ew_iload (t := 229) dX4_moved_227 rfl rfl ?_
        refine ew_ineg (t := 230) dX4_moved_229 rfl ?_
        refine ew_goto (t := 235) dX4_moved_230 rfl ?_
        exact J235 (-((thF (SN k) AN) - ((F 56) k))) (by simp only [if_neg c_224])
theorem OpQ.mv {s s' s2 : Nat → Int32} {al2 : Int64} {F F' F2 : Nat → Nat → Int32} {FL2 : Nat → Int64} {h h1 h2 : AH} {n : Nat} {x1 x2 x3 x4 x5 : Int32} {al' : Int64} {f : Nat → Int32} {v ans : Value} (q3 : frM h h1) (q5 : ∀ k, ¬ (44 ≤ k ∧ k ≤ 51) → F' k = F k) (q6 : ∀ j, j ≠ 21 → j ≠ 22 → j ≠ 23 → j ≠ 24 → j ≠ 32 → j ≠ 33 → s' j = s j) (r3 : frM (hov h1 [(56, IA 100 f), (33, MO (upd (upd (upd (upd (upd s' 22 x1) 23 x2) 24 x3) 32 x4) 33 x5) al')]) h2) (r4 : MC s2 al2 F2 FL2 h2) (r5 : ∀ k, ¬ (44 ≤ k ∧ k ≤ 51) → F2 k = va_up F' 56 f k) (r6 : ∀ j, j ≠ 21 → s2 j = (upd (upd (upd (upd (upd s' 22 x1) 23 x2) 24 x3) 32 x4) 33 x5) j) (e : v = ans) : OpQ s F h n ans (some v) h2 n := by
  refine ⟨rfl, by rw [e], fun k hk => (r3 k hk).trans ((hov_fr 33 63 rfl k hk).trans (q3 k hk)), s2, al2, F2, FL2, r4, fun k hk => (r5 k (perM_r hk)).trans ((va_up_ne _ _ (by intro e; rw [e] at hk; cases hk)).trans (q5 k (perM_r hk))), ?_, ?_, ?_, ?_⟩
  · exact (r6 7 (by decide)).trans (q6 7 (by decide) (by decide) (by decide) (by decide) (by decide) (by decide))
  · exact (r6 25 (by decide)).trans (q6 25 (by decide) (by decide) (by decide) (by decide) (by decide) (by decide))
  · exact (r6 27 (by decide)).trans (q6 27 (by decide) (by decide) (by decide) (by decide) (by decide) (by decide))
  · exact (r6 37 (by decide)).trans (q6 37 (by decide) (by decide) (by decide) (by decide) (by decide) (by decide))
set_option maxHeartbeats 4000000 in
theorem mc_moved {l : Launch} {G : GW} {h : AH} {n : Nat} {s : Nat → Int32} {al : Int64} {F : Nat → Nat → Int32} {FL : Nat → Int64} {a H g np nd : Nat} (mc : MC s al F FL h) (mk : MKc s F a H g np nd) {W : Int32 → Int32 → Int32 → List WY} (hW : ∀ nr nt nf R, EnM (F 34) (F 35) (F 36) nr nt nf a H (W nr nt nf) 0 (begR (F 34 1) R)) {SN S1 : Nat → Nat} {AN A1 : Nat} (hS : SumN F 0 0 H g np nd (W 0 0 0) SN AN) (c : Int32) (hS1 : SumN F (fP c) (fD c) H g np nd (W (fR c) (fT c) (fF c)) S1 A1) : AM l G yX4_moved cX4_moved 6 (some .int) 6 0 0 [.ref 33, .int c] h n (OpQ s F h n (.int (mvF SN AN S1 A1))) := by
  refine AM.of (L := [some (.ref 33), some (.int c), none, none, none, none]) (by decide) (Nat.le_of_ble_eq_true rfl) rfl ?_
  refine ew_aload_n (t := 1) dX4_moved_0 rfl rfl rfl ?_
  refine ew_callV (t := 4) (As := []) (mc_endsAsTold mc mk (hW 0 0 0)) (fcX4).1 mc.1 (lw_V q1306 q1308 qs43 q60 q1309) rfl naX4_endsAsTold dX4_moved_1 rfl (Nat.le_of_ble_eq_true rfl) (Nat.le_of_ble_eq_true rfl) (Nat.le_refl _) (Nat.le_refl _) (Nat.le_of_ble_eq_true rfl) rfl (fun r h1 n1 q => ?_)
  obtain ⟨rfl, qn, q3, s', F', q4, q5, q6⟩ := q
  replace qn := qn.symm
  subst qn
  refine ew_aload_n (t := 5) dX4_moved_4 rfl rfl rfl ?_
  refine ew_get (t := 8) (j := 31) (v := .long (alF F 0 0 H g np nd (W 0 0 0))) fcX4 q4.1 (Nat.le_of_ble_eq_true rfl) q1052 rfl dX4_moved_5 rfl ?_
  rw [hS.2.1]
  refine ew_lc0 (t := 9) dX4_moved_8 rfl ?_
  have J18 : ∀ (j18_0 : Int32), j18_0 = ((if (lN AN) ≤ 0 then 0 else 1) : Int32) → EW l G yX4_moved cX4_moved 6 (some .int) 6 0 0 (OpQ s F h n (.int (mvF SN AN S1 A1))) 0 0 h1 n 18 [some (.ref 33), some (.int c), none, none, none, none] [.int j18_0] := by
    intro j18_0 hj18_0
    refine ew_istore_n (t := 19) (L' := [some (.ref 33), some (.int c), some (.int j18_0), none, none, none]) dX4_moved_18 rfl (Nat.le_of_ble_eq_true rfl) rfl rfl ?_
    refine ew_ic0 (t := 20) dX4_moved_19 rfl ?_
    refine ew_istore_n (t := 21) (L' := [some (.ref 33), some (.int c), some (.int j18_0), some (.int 0), none, none]) dX4_moved_20 rfl (Nat.le_of_ble_eq_true rfl) rfl rfl ?_
    rw [show j18_0 = p01 (lN AN) from hj18_0]
    refine EW.heap (h' := hov h1 [(56, IA 100 (F' 56))]) (hov_same (mI q4 56 rfl)).symm ?_
    refine lp_moved1 (w := p01 (lN AN)) (f0 := F' 56) (AN := AN) (SN := SN) q4 (fun j hj => (hS.1 j hj).1) (fun j hj => (hS.1 j hj).2) hS.2.1 hS.2.2 p01_pos ?_ 100 0 (by omega)
    refine ew_aload_n (t := 58) dX4_moved_57 rfl rfl rfl ?_
    refine ew_iload_n (t := 59) dX4_moved_58 rfl rfl rfl ?_
    refine ew_bipush (t := 61) (v := 6) dX4_moved_59 (by decide) rfl ?_
    have J71 : ∀ (j71_0 : Int32), j71_0 = ((if 6 ≤ c then 0 else ((2 : Int32) <<< (c &&& 31))) : Int32) → EW l G yX4_moved cX4_moved 6 (some .int) 6 0 0 (OpQ s F h n (.int (mvF SN AN S1 A1))) 0 0 (hov h1 [(56, IA 100 (shA (p01 (lN AN)) SN AN (F' 56) 100))]) n 71 [some (.ref 33), some (.int c), some (.int (p01 (lN AN))), some (.int (nI 100)), none, none] [.int j71_0, .ref 33] := by
      intro j71_0 hj71_0
      rw [show j71_0 = fR c from hj71_0]
      refine ew_put (t := 74) (j := 22) (fs' := MOf (upd s' 22 (fR c)) (alF F 0 0 H g np nd (W 0 0 0))) (h' := (hov h1 [(56, IA 100 (shA (p01 (lN AN)) SN AN (F' 56) 100)), (33, OB 4 (MOf (upd s' 22 (fR c)) (alF F 0 0 H g np nd (W 0 0 0))))])) fcX4 q4.1 (Nat.le_of_ble_eq_true rfl) rfl q1043 rfl rfl (Nat.le_of_ble_eq_true rfl) rfl dX4_moved_71 (hov_up rfl) rfl ?_
      refine ew_aload_n (t := 75) dX4_moved_74 rfl rfl rfl ?_
      refine ew_iload_n (t := 76) dX4_moved_75 rfl rfl rfl ?_
      refine ew_bipush (t := 78) (v := 6) dX4_moved_76 (by decide) rfl ?_
      have J86 : ∀ (j86_0 : Int32), j86_0 = ((if ¬ c = 6 then 0 else 1) : Int32) → EW l G yX4_moved cX4_moved 6 (some .int) 6 0 0 (OpQ s F h n (.int (mvF SN AN S1 A1))) 0 0 (hov h1 [(56, IA 100 (shA (p01 (lN AN)) SN AN (F' 56) 100)), (33, OB 4 (MOf (upd s' 22 (fR c)) (alF F 0 0 H g np nd (W 0 0 0))))]) n 86 [some (.ref 33), some (.int c), some (.int (p01 (lN AN))), some (.int (nI 100)), none, none] [.int j86_0, .ref 33] := by
        intro j86_0 hj86_0
        rw [show j86_0 = fT c from hj86_0.trans ne01]
        refine ew_put (t := 89) (j := 23) (fs' := MOf (upd (upd s' 22 (fR c)) 23 (fT c)) (alF F 0 0 H g np nd (W 0 0 0))) (h' := (hov h1 [(56, IA 100 (shA (p01 (lN AN)) SN AN (F' 56) 100)), (33, OB 4 (MOf (upd (upd s' 22 (fR c)) 23 (fT c)) (alF F 0 0 H g np nd (W 0 0 0))))])) fcX4 rfl (Nat.le_of_ble_eq_true rfl) rfl q1044 (b2i_nar _) (b2i_fit _) (Nat.le_of_ble_eq_true rfl) rfl dX4_moved_86 (hov_up rfl) rfl ?_
        refine ew_aload_n (t := 90) dX4_moved_89 rfl rfl rfl ?_
        refine ew_iload_n (t := 91) dX4_moved_90 rfl rfl rfl ?_
        refine ew_bipush (t := 93) (v := 7) dX4_moved_91 (by decide) rfl ?_
        have J101 : ∀ (j101_0 : Int32), j101_0 = ((if ¬ c = 7 then 0 else 1) : Int32) → EW l G yX4_moved cX4_moved 6 (some .int) 6 0 0 (OpQ s F h n (.int (mvF SN AN S1 A1))) 0 0 (hov h1 [(56, IA 100 (shA (p01 (lN AN)) SN AN (F' 56) 100)), (33, OB 4 (MOf (upd (upd s' 22 (fR c)) 23 (fT c)) (alF F 0 0 H g np nd (W 0 0 0))))]) n 101 [some (.ref 33), some (.int c), some (.int (p01 (lN AN))), some (.int (nI 100)), none, none] [.int j101_0, .ref 33] := by
          intro j101_0 hj101_0
          rw [show j101_0 = fF c from hj101_0.trans ne01]
          refine ew_put (t := 104) (j := 24) (fs' := MOf (upd (upd (upd s' 22 (fR c)) 23 (fT c)) 24 (fF c)) (alF F 0 0 H g np nd (W 0 0 0))) (h' := (hov h1 [(56, IA 100 (shA (p01 (lN AN)) SN AN (F' 56) 100)), (33, OB 4 (MOf (upd (upd (upd s' 22 (fR c)) 23 (fT c)) 24 (fF c)) (alF F 0 0 H g np nd (W 0 0 0))))])) fcX4 rfl (Nat.le_of_ble_eq_true rfl) rfl q1045 (b2i_nar _) (b2i_fit _) (Nat.le_of_ble_eq_true rfl) rfl dX4_moved_101 (hov_up rfl) rfl ?_
          refine ew_aload_n (t := 105) dX4_moved_104 rfl rfl rfl ?_
          refine ew_iload_n (t := 106) dX4_moved_105 rfl rfl rfl ?_
          refine ew_bipush (t := 108) (v := 7) dX4_moved_106 (by decide) rfl ?_
          have J127 : ∀ (j127_0 : Int32), j127_0 = ((if c ≤ 7 then 0 else (if 12 ≤ c then 0 else ((1 : Int32) <<< ((c - 8) &&& 31)))) : Int32) → EW l G yX4_moved cX4_moved 6 (some .int) 6 0 0 (OpQ s F h n (.int (mvF SN AN S1 A1))) 0 0 (hov h1 [(56, IA 100 (shA (p01 (lN AN)) SN AN (F' 56) 100)), (33, OB 4 (MOf (upd (upd (upd s' 22 (fR c)) 23 (fT c)) 24 (fF c)) (alF F 0 0 H g np nd (W 0 0 0))))]) n 127 [some (.ref 33), some (.int c), some (.int (p01 (lN AN))), some (.int (nI 100)), none, none] [.int j127_0, .ref 33] := by
            intro j127_0 hj127_0
            rw [show j127_0 = fP c from hj127_0]
            refine ew_put (t := 130) (j := 32) (fs' := MOf (upd (upd (upd (upd s' 22 (fR c)) 23 (fT c)) 24 (fF c)) 32 (fP c)) (alF F 0 0 H g np nd (W 0 0 0))) (h' := (hov h1 [(56, IA 100 (shA (p01 (lN AN)) SN AN (F' 56) 100)), (33, OB 4 (MOf (upd (upd (upd (upd s' 22 (fR c)) 23 (fT c)) 24 (fF c)) 32 (fP c)) (alF F 0 0 H g np nd (W 0 0 0))))])) fcX4 rfl (Nat.le_of_ble_eq_true rfl) rfl q1053 rfl rfl (Nat.le_of_ble_eq_true rfl) rfl dX4_moved_127 (hov_up rfl) rfl ?_
            refine ew_aload_n (t := 131) dX4_moved_130 rfl rfl rfl ?_
            refine ew_iload_n (t := 132) dX4_moved_131 rfl rfl rfl ?_
            refine ew_bipush (t := 134) (v := 12) dX4_moved_132 (by decide) rfl ?_
            have J142 : ∀ (j142_0 : Int32), j142_0 = ((if ¬ c = 12 then 0 else 1) : Int32) → EW l G yX4_moved cX4_moved 6 (some .int) 6 0 0 (OpQ s F h n (.int (mvF SN AN S1 A1))) 0 0 (hov h1 [(56, IA 100 (shA (p01 (lN AN)) SN AN (F' 56) 100)), (33, OB 4 (MOf (upd (upd (upd (upd s' 22 (fR c)) 23 (fT c)) 24 (fF c)) 32 (fP c)) (alF F 0 0 H g np nd (W 0 0 0))))]) n 142 [some (.ref 33), some (.int c), some (.int (p01 (lN AN))), some (.int (nI 100)), none, none] [.int j142_0, .ref 33] := by
              intro j142_0 hj142_0
              rw [show j142_0 = fD c from hj142_0.trans ne01]
              refine ew_put (t := 145) (j := 33) (fs' := MOf (upd (upd (upd (upd (upd s' 22 (fR c)) 23 (fT c)) 24 (fF c)) 32 (fP c)) 33 (fD c)) (alF F 0 0 H g np nd (W 0 0 0))) (h' := (hov h1 [(56, IA 100 (shA (p01 (lN AN)) SN AN (F' 56) 100)), (33, OB 4 (MOf (upd (upd (upd (upd (upd s' 22 (fR c)) 23 (fT c)) 24 (fF c)) 32 (fP c)) 33 (fD c)) (alF F 0 0 H g np nd (W 0 0 0))))])) fcX4 rfl (Nat.le_of_ble_eq_true rfl) rfl q1054 (b2i_nar _) (b2i_fit _) (Nat.le_of_ble_eq_true rfl) rfl dX4_moved_142 (hov_up rfl) rfl ?_
              refine ew_aload_n (t := 146) dX4_moved_145 rfl rfl rfl ?_
              have e1 : ∀ k, perM k = true → va_up F' 56 (shA (p01 (lN AN)) SN AN (F' 56) 100) k = F k := fun k hk => (va_up_ne _ _ (by intro e; rw [e] at hk; cases hk)).trans (q5 k (perM_r hk))
              have mc2 : MC (upd (upd (upd (upd (upd s' 22 (fR c)) 23 (fT c)) 24 (fF c)) 32 (fP c)) 33 (fD c)) (alF F 0 0 H g np nd (W 0 0 0)) (va_up F' 56 (shA (p01 (lN AN)) SN AN (F' 56) 100)) (suF F 0 0 H g np nd (W 0 0 0)) (hov h1 [(56, IA 100 (shA (p01 (lN AN)) SN AN (F' 56) 100)), (33, OB 4 (MOf (upd (upd (upd (upd (upd s' 22 (fR c)) 23 (fT c)) 24 (fF c)) 32 (fP c)) 33 (fD c)) (alF F 0 0 H g np nd (W 0 0 0))))]) := MC_I (c := 56) rfl (MC_33 (l := []) q4)
              have ends2 := fun (l : Launch) (G : GW) => mc_ends (l := l) (G := G) (n := n) (ws := (W (fR c) (fT c) (fF c))) mc2 (mk.keep e1 (q6 25 (by decide) (by decide) (by decide) (by decide) (by decide) (by decide)) (q6 27 (by decide) (by decide) (by decide) (by decide) (by decide) (by decide))) (by rw [e1 34 rfl, e1 35 rfl, e1 36 rfl]; exact hW (fR c) (fT c) (fF c))
              rw [suF_keep e1, alF_keep e1] at ends2
              refine ew_callV (t := 149) (As := []) (ends2 l G) (fcX4).1 rfl (lw_V q1310 q1312 qs44 q60 q1313) rfl naX4_ends dX4_moved_146 rfl (Nat.le_of_ble_eq_true rfl) (Nat.le_of_ble_eq_true rfl) (Nat.le_refl _) (Nat.le_refl _) (Nat.le_of_ble_eq_true rfl) rfl (fun r h2 n2 q => ?_)
              obtain ⟨rfl, qn, r3, s2, F2, r4, r5, r6⟩ := q
              replace qn := qn.symm
              subst qn
              refine ew_iload_n (t := 150) dX4_moved_149 rfl rfl rfl ?_
              refine ew_if_eq (t := 162) (t2 := 153) dX4_moved_150 rfl rfl (fun c_150 => ?_) (fun c_150 => ?_)
              · refine ew_iload_n (t := 163) dX4_moved_162 rfl rfl rfl ?_
                refine ew_aload_n (t := 164) dX4_moved_163 rfl rfl rfl ?_
                refine ew_get (t := 167) (j := 31) (v := .long (alF F (fP c) (fD c) H g np nd (W (fR c) (fT c) (fF c)))) fcX4 r4.1 (Nat.le_of_ble_eq_true rfl) q1052 rfl dX4_moved_164 rfl ?_
                rw [hS1.2.1]
                refine ew_lc0 (t := 168) dX4_moved_167 rfl ?_
                have J177 : ∀ (j177_0 : Int32), j177_0 = ((if (lN A1) ≤ 0 then 0 else 1) : Int32) → EW l G yX4_moved cX4_moved 6 (some .int) 6 0 0 (OpQ s F h n (.int (mvF SN AN S1 A1))) 0 0 h2 n 177 [some (.ref 33), some (.int c), some (.int (p01 (lN AN))), some (.int (nI 100)), none, none] [.int j177_0, .int (p01 (lN AN))] := by
                  intro j177_0 hj177_0
                  rw [show j177_0 = p01 (lN A1) from hj177_0]
                  refine ew_icmp_ne (t := 184) (t2 := 180) dX4_moved_177 rfl rfl (fun c_177 => ?_) (fun c_177 => ?_)
                  · refine ew_sipush (t := 187) (v := 1000) dX4_moved_184 (by decide) rfl ?_
                    exact ew_iret rfl dX4_moved_187 (Nat.le_refl _) (Nat.le_refl _) (OpQ.mv q3 q5 q6 r3 r4 r5 r6 (congrArg Value.int (by unfold mvF; rw [if_pos c_150, if_pos c_177])))
                  · refine ew_ic0 (t := 181) dX4_moved_180 rfl ?_
                    refine ew_goto (t := 187) dX4_moved_181 rfl ?_
                    exact ew_iret rfl dX4_moved_187 (Nat.le_refl _) (Nat.le_refl _) (OpQ.mv q3 q5 q6 r3 r4 r5 r6 (congrArg Value.int (by unfold mvF; rw [if_pos c_150, if_neg (not_not_intro c_177)])))
                refine ew_lcmp_le (t1 := 169) (t := 176) (t2 := 172) dX4_moved_168 rfl dX4_moved_169 rfl rfl (fun c_168 => ?_) (fun c_168 => ?_)
                · refine ew_ic0 (t := 177) dX4_moved_176 rfl ?_
                  exact J177 0 (by simp only [if_pos c_168])
                · refine ew_ic1 (t := 173) dX4_moved_172 rfl ?_
                  refine ew_goto (t := 177) dX4_moved_173 rfl ?_
                  exact J177 1 (by simp only [if_neg c_168])
              · refine ew_aload_n (t := 154) dX4_moved_153 rfl rfl rfl ?_
                refine ew_get (t := 157) (j := 31) (v := .long (alF F (fP c) (fD c) H g np nd (W (fR c) (fT c) (fF c)))) fcX4 r4.1 (Nat.le_of_ble_eq_true rfl) q1052 rfl dX4_moved_154 rfl ?_
                rw [hS1.2.1]
                refine ew_lc0 (t := 158) dX4_moved_157 rfl ?_
                refine ew_lcmp_ne (t1 := 159) (t := 188) (t2 := 162) dX4_moved_158 rfl dX4_moved_159 rfl rfl (fun c_158 => ?_) (fun c_158 => ?_)
                · refine ew_ic0 (t := 189) dX4_moved_188 rfl ?_
                  refine ew_istore_n (t := 190) (L' := [some (.ref 33), some (.int c), some (.int (p01 (lN AN))), some (.int 0), none, none]) dX4_moved_189 rfl (Nat.le_of_ble_eq_true rfl) rfl rfl ?_
                  refine ew_ic0 (t := 191) dX4_moved_190 rfl ?_
                  refine ew_istore (t := 193) (L' := [some (.ref 33), some (.int c), some (.int (p01 (lN AN))), some (.int 0), some (.int 0), none]) dX4_moved_191 (Nat.le_of_ble_eq_true rfl) rfl rfl ?_
                  have hA0 : 0 < A1 := Nat.pos_of_ne_zero (fun e => c_158 (by rw [e]; rfl))
                  have r56 : F2 56 = (shA (p01 (lN AN)) SN AN (F' 56) 100) := (r5 56 (by omega)).trans (va_up_self _ _ _)
                  refine lp_moved2 (SN := S1) (AN := A1) r4 (fun j hj => (hS1.1 j hj).1) (fun j hj => (hS1.1 j hj).2) hS1.2.1 hS1.2.2 hA0 (OpQ.mv q3 q5 q6 r3 r4 r5 r6 (congrArg Value.int ?_)) 100 0 _ (by omega)
                  unfold mvF
                  rw [if_neg c_150, if_pos c_158]
                  refine mvD_congr 100 (fun j hj => ?_)
                  rw [r56, shA_get 100 hj, if_neg c_150]
                · refine ew_iload_n (t := 163) dX4_moved_162 rfl rfl rfl ?_
                  refine ew_aload_n (t := 164) dX4_moved_163 rfl rfl rfl ?_
                  refine ew_get (t := 167) (j := 31) (v := .long (alF F (fP c) (fD c) H g np nd (W (fR c) (fT c) (fF c)))) fcX4 r4.1 (Nat.le_of_ble_eq_true rfl) q1052 rfl dX4_moved_164 rfl ?_
                  rw [hS1.2.1]
                  refine ew_lc0 (t := 168) dX4_moved_167 rfl ?_
                  have J177 : ∀ (j177_0 : Int32), j177_0 = ((if (lN A1) ≤ 0 then 0 else 1) : Int32) → EW l G yX4_moved cX4_moved 6 (some .int) 6 0 0 (OpQ s F h n (.int (mvF SN AN S1 A1))) 0 0 h2 n 177 [some (.ref 33), some (.int c), some (.int (p01 (lN AN))), some (.int (nI 100)), none, none] [.int j177_0, .int (p01 (lN AN))] := by
                    intro j177_0 hj177_0
                    rw [show j177_0 = p01 (lN A1) from hj177_0]
                    refine ew_icmp_ne (t := 184) (t2 := 180) dX4_moved_177 rfl rfl (fun c_177 => ?_) (fun c_177 => ?_)
                    · refine ew_sipush (t := 187) (v := 1000) dX4_moved_184 (by decide) rfl ?_
                      exact ew_iret rfl dX4_moved_187 (Nat.le_refl _) (Nat.le_refl _) (OpQ.mv q3 q5 q6 r3 r4 r5 r6 (congrArg Value.int (by unfold mvF; rw [if_neg c_150, if_neg (not_not_intro c_158), if_pos c_177])))
                    · refine ew_ic0 (t := 181) dX4_moved_180 rfl ?_
                      refine ew_goto (t := 187) dX4_moved_181 rfl ?_
                      exact ew_iret rfl dX4_moved_187 (Nat.le_refl _) (Nat.le_refl _) (OpQ.mv q3 q5 q6 r3 r4 r5 r6 (congrArg Value.int (by unfold mvF; rw [if_neg c_150, if_neg (not_not_intro c_158), if_neg (not_not_intro c_177)])))
                  refine ew_lcmp_le (t1 := 169) (t := 176) (t2 := 172) dX4_moved_168 rfl dX4_moved_169 rfl rfl (fun c_168 => ?_) (fun c_168 => ?_)
                  · refine ew_ic0 (t := 177) dX4_moved_176 rfl ?_
                    exact J177 0 (by simp only [if_pos c_168])
                  · refine ew_ic1 (t := 173) dX4_moved_172 rfl ?_
                    refine ew_goto (t := 177) dX4_moved_173 rfl ?_
                    exact J177 1 (by simp only [if_neg c_168])
            refine ew_icmp_ne (t := 141) (t2 := 137) dX4_moved_134 rfl rfl (fun c_134 => ?_) (fun c_134 => ?_)
            · refine ew_ic0 (t := 142) dX4_moved_141 rfl ?_
              exact J142 0 (by simp only [if_pos c_134])
            · refine ew_ic1 (t := 138) dX4_moved_137 rfl ?_
              refine ew_goto (t := 142) dX4_moved_138 rfl ?_
              exact J142 1 (by simp only [if_neg (not_not_intro c_134)])
          refine ew_icmp_le (t := 126) (t2 := 111) dX4_moved_108 rfl rfl (fun c_108 => ?_) (fun c_108 => ?_)
          · refine ew_ic0 (t := 127) dX4_moved_126 rfl ?_
            exact J127 0 (by simp only [if_pos c_108])
          · refine ew_iload_n (t := 112) dX4_moved_111 rfl rfl rfl ?_
            refine ew_bipush (t := 114) (v := 12) dX4_moved_112 (by decide) rfl ?_
            refine ew_icmp_ge (t := 126) (t2 := 117) dX4_moved_114 rfl rfl (fun c_114 => ?_) (fun c_114 => ?_)
            · refine ew_ic0 (t := 127) dX4_moved_126 rfl ?_
              exact J127 0 (by simp only [if_neg c_108, if_pos c_114])
            · refine ew_ic1 (t := 118) dX4_moved_117 rfl ?_
              refine ew_iload_n (t := 119) dX4_moved_118 rfl rfl rfl ?_
              refine ew_bipush (t := 121) (v := 8) dX4_moved_119 (by decide) rfl ?_
              refine ew_isub (t := 122) dX4_moved_121 rfl ?_
              refine ew_ishl (t := 123) dX4_moved_122 rfl ?_
              refine ew_goto (t := 127) dX4_moved_123 rfl ?_
              exact J127 ((1 : Int32) <<< ((c - 8) &&& 31)) (by simp only [if_neg c_108, if_neg c_114])
        refine ew_icmp_ne (t := 100) (t2 := 96) dX4_moved_93 rfl rfl (fun c_93 => ?_) (fun c_93 => ?_)
        · refine ew_ic0 (t := 101) dX4_moved_100 rfl ?_
          exact J101 0 (by simp only [if_pos c_93])
        · refine ew_ic1 (t := 97) dX4_moved_96 rfl ?_
          refine ew_goto (t := 101) dX4_moved_97 rfl ?_
          exact J101 1 (by simp only [if_neg (not_not_intro c_93)])
      refine ew_icmp_ne (t := 85) (t2 := 81) dX4_moved_78 rfl rfl (fun c_78 => ?_) (fun c_78 => ?_)
      · refine ew_ic0 (t := 86) dX4_moved_85 rfl ?_
        exact J86 0 (by simp only [if_pos c_78])
      · refine ew_ic1 (t := 82) dX4_moved_81 rfl ?_
        refine ew_goto (t := 86) dX4_moved_82 rfl ?_
        exact J86 1 (by simp only [if_neg (not_not_intro c_78)])
    refine ew_icmp_ge (t := 70) (t2 := 64) dX4_moved_61 rfl rfl (fun c_61 => ?_) (fun c_61 => ?_)
    · refine ew_ic0 (t := 71) dX4_moved_70 rfl ?_
      exact J71 0 (by simp only [if_pos c_61])
    · refine ew_ic2 (t := 65) dX4_moved_64 rfl ?_
      refine ew_iload_n (t := 66) dX4_moved_65 rfl rfl rfl ?_
      refine ew_ishl (t := 67) dX4_moved_66 rfl ?_
      refine ew_goto (t := 71) dX4_moved_67 rfl ?_
      exact J71 ((2 : Int32) <<< (c &&& 31)) (by simp only [if_neg c_61])
  refine ew_lcmp_le (t1 := 10) (t := 17) (t2 := 13) dX4_moved_9 rfl dX4_moved_10 rfl rfl (fun c_9 => ?_) (fun c_9 => ?_)
  · refine ew_ic0 (t := 18) dX4_moved_17 rfl ?_
    exact J18 0 (by simp only [if_pos c_9])
  · refine ew_ic1 (t := 14) dX4_moved_13 rfl ?_
    refine ew_goto (t := 18) dX4_moved_14 rfl ?_
    exact J18 1 (by simp only [if_neg c_9])
