-- Obj fields dict_keys(['cls', 'fun', 'sname', 'refs', 'extra', 'ups'])
/-! the reference: rings, the whole -/
set_option maxRecDepth 100000
/-- places 1 to k taken over -/
def wbI (g f : Nat → Int32) : Nat → Nat → Int32
  | 0 => g
  | k + 1 => upd (wbI g f k) (k + 1) (f (k + 1))
def rngsE (s : Nat → Int32) (F : Nat → Nat → Int32) (tp : Nat) (Z : RGS) : OR := if ¬ Z.2.1 = 0 then (-20 - nI Z.1, upd s 7 0, F) else if hrC (F 40) tp (hrN (F 40) tp Z.1) = 0 then (nI Z.2.2.1, upd s 7 0, va_up (va_up F 35 (wbI (F 35) Z.2.2.2.1 6)) 36 (wbI (F 36) Z.2.2.2.2 6)) else (-20 - nI (hrN (F 40) tp Z.1), upd s 7 0, F)
def rngsZ (F : Nat → Nat → Int32) (tp : Nat) : RGS := rgR (F 40) tp 5 0 0 0 (cpI (F 41) (F 35) 0 7) (cpI (F 42) (F 36) 0 7)
def rngsP (s : Nat → Int32) (F : Nat → Nat → Int32) (tp : Nat) : OR := rngsE s F tp (rngsZ F tp)
theorem rgS_le {T : Nat → Int32} {tp lo a k : Nat} {f g : Nat → Int32} {E : RGS} (ha : a ≤ tp) (htp : tp ≤ 60) (hlo : lo ≤ 6) (hE : (rgN T tp lo a).2.2 = 0 → hrC T tp (rgA T tp lo a) = 58 → hrC T tp (hrN T tp (rgE T tp lo a)) = 59 → E.1 ≤ tp) : (rgS T tp lo a k f g E).1 ≤ tp := by
  unfold rgS
  by_cases c1 : (rgN T tp lo a).2.2 = 0
  · rw [if_neg (not_not_intro c1)]
    by_cases c2 : hrC T tp (rgA T tp lo a) = 58
    · rw [if_neg (not_not_intro c2)]
      by_cases c3 : (rgQ T tp lo a).2.2 = 0
      · rw [if_neg (not_not_intro c3)]
        by_cases c4 : 6 ≤ nI (k + 1)
        · rw [if_pos c4]; dsimp only; exact rgE_le ha htp hlo c2
        · rw [if_neg c4]
          by_cases c5 : hrC T tp (hrN T tp (rgE T tp lo a)) = 59
          · rw [if_neg (not_not_intro c5)]; exact hE c1 c2 c5
          · rw [if_pos c5]; dsimp only; exact (hrN_le (rgE_le ha htp hlo c2)).2
      · rw [if_pos c3]; dsimp only; exact rgQ_le ha htp hlo c2
    · rw [if_pos c2]; dsimp only; exact rgA_le ha htp hlo
  · rw [if_pos c1]; dsimp only; exact rgN_le ha htp hlo
theorem rgH_le {T : Nat → Int32} {tp lo a : Nat} (hlo : lo ≤ 6) : rgH T tp lo a ≤ 6 := by
  obtain ⟨j, h1, h2⟩ := dgR_h (T := T) (tp := tp) (a := a) hlo
  unfold rgH rgN
  rw [h2, nI_clamp (by omega)]
  exact h1
theorem rgR_le {T : Nat → Int32} {tp : Nat} (htp : tp ≤ 60) : ∀ u k lo a f g, a ≤ tp → lo ≤ 6 → (rgR T tp u k lo a f g).1 ≤ tp
  | 0, k, lo, a, f, g, ha, hlo => rgS_le ha htp hlo (fun _ _ _ => Nat.zero_le _)
  | u + 1, k, lo, a, f, g, ha, hlo => rgS_le ha htp hlo (fun _ c2 c3 => rgR_le htp u _ _ _ _ _ (hrC_lt c3 (by decide) (hrN_le (rgE_le ha htp hlo c2)).2 htp) (rgH_le hlo))

set_option maxHeartbeats 600000 in
theorem lp_rings1 {l : Launch} {G : GW} {h : AH} {n : Nat} {s : Nat → Int32} {al : Int64} {f1 f2 g1 g2 : Nat → Int32} {Q : Option Value → AH → Nat → Prop} (m33 : h 33 = some (MO s al)) (m35 : h 35 = some (IA 7 f1)) (m36 : h 36 = some (IA 7 f2)) (kk : EW l G yX4_rings cX4_rings 6 (some .int) 3 0 0 Q 0 0 (hov h [(41, IA 7 (cpI g1 f1 0 7)), (42, IA 7 (cpI g2 f2 0 7))]) n 38 [some (.ref 33), some (.int (nI 7)), none, none, none, none] []) : ∀ (f k : Nat), k + f = 7 → EW l G yX4_rings cX4_rings 6 (some .int) 3 0 0 Q 0 0 (hov h [(41, IA 7 (cpI g1 f1 0 k)), (42, IA 7 (cpI g2 f2 0 k))]) n 2 [some (.ref 33), some (.int (nI k)), none, none, none, none] [] := by
  intro f
  induction f with
  | zero =>
    intro k  hk
    refine ew_iload_n (t := 3) dX4_rings_2 rfl rfl rfl ?_
    refine ew_bipush (t := 5) (v := 7) dX4_rings_3 (by decide) rfl ?_
    refine ew_icmp_ge (t := 38) (t2 := 8) dX4_rings_5 rfl rfl (fun c_5 => ?_) (fun c_5 => ?_)
    · have ek : k = 7 := by omega
      subst ek
      exact kk
    · exact absurd (show (7 : Int32) ≤ nI k by rw [show k = 7 by omega]; decide) c_5
  | succ f ih =>
    intro k  hk
    refine ew_iload_n (t := 3) dX4_rings_2 rfl rfl rfl ?_
    refine ew_bipush (t := 5) (v := 7) dX4_rings_3 (by decide) rfl ?_
    refine ew_icmp_ge (t := 38) (t2 := 8) dX4_rings_5 rfl rfl (fun c_5 => ?_) (fun c_5 => ?_)
    · exact absurd c_5 (nI_ge (b := 7) (by omega) (by omega))
    · refine ew_aload_n (t := 9) dX4_rings_8 rfl rfl rfl ?_
      refine ew_get (t := 12) (j := 10) (v := .ref 41) fcX4 m33 (Nat.le_of_ble_eq_true rfl) q1031 rfl dX4_rings_9 rfl ?_
      refine ew_iload_n (t := 13) dX4_rings_12 rfl rfl rfl ?_
      refine ew_aload_n (t := 14) dX4_rings_13 rfl rfl rfl ?_
      refine ew_get (t := 17) (j := 1) (v := .ref 35) fcX4 m33 (Nat.le_of_ble_eq_true rfl) q1022 rfl dX4_rings_14 rfl ?_
      refine ew_iload_n (t := 18) dX4_rings_17 rfl rfl rfl ?_
      refine ew_iald (t := 19) (j := k) (N := 7) m35 (vp_in_nI (by omega) (by omega)) (nI_clamp (by omega)) dX4_rings_18 rfl ?_
      refine ew_iast (t := 20) (j := k) (N := 7) (h' := (hov h [(41, IA 7 (upd (cpI g1 f1 0 k) k (f1 k))), (42, IA 7 (cpI g2 f2 0 k))])) rfl (vp_in_nI (by omega) (by omega)) (nI_clamp (by omega)) dX4_rings_19 (hov_up rfl) rfl ?_
      refine ew_aload_n (t := 21) dX4_rings_20 rfl rfl rfl ?_
      refine ew_get (t := 24) (j := 11) (v := .ref 42) fcX4 m33 (Nat.le_of_ble_eq_true rfl) q1032 rfl dX4_rings_21 rfl ?_
      refine ew_iload_n (t := 25) dX4_rings_24 rfl rfl rfl ?_
      refine ew_aload_n (t := 26) dX4_rings_25 rfl rfl rfl ?_
      refine ew_get (t := 29) (j := 2) (v := .ref 36) fcX4 m33 (Nat.le_of_ble_eq_true rfl) q1023 rfl dX4_rings_26 rfl ?_
      refine ew_iload_n (t := 30) dX4_rings_29 rfl rfl rfl ?_
      refine ew_iald (t := 31) (j := k) (N := 7) m36 (vp_in_nI (by omega) (by omega)) (nI_clamp (by omega)) dX4_rings_30 rfl ?_
      refine ew_iast (t := 32) (j := k) (N := 7) (h' := (hov h [(41, IA 7 (upd (cpI g1 f1 0 k) k (f1 k))), (42, IA 7 (upd (cpI g2 f2 0 k) k (f2 k)))])) rfl (vp_in_nI (by omega) (by omega)) (nI_clamp (by omega)) dX4_rings_31 (hov_up rfl) rfl ?_
      refine ew_iinc (t := 35) (x := (nI k)) (v := ((nI k) + 1)) (L' := [some (.ref 33), some (.int ((nI k) + 1)), none, none, none, none]) dX4_rings_32 rfl rfl (Nat.le_of_ble_eq_true rfl) rfl rfl ?_
      refine ew_goto (t := 2) dX4_rings_35 rfl ?_
      rw [nI_1]
      refine EW.heap (h' := (hov h [(41, IA 7 (cpI g1 f1 0 (k + 1))), (42, IA 7 (cpI g2 f2 0 (k + 1)))])) (by rw [cpI, cpI, Nat.zero_add]) ?_
      exact ih (k + 1) (by omega)
set_option maxHeartbeats 600000 in
theorem lp_rings2 {l : Launch} {G : GW} {h : AH} {n : Nat} {s : Nat → Int32} {al : Int64} {f1 f2 g1 g2 : Nat → Int32} {nn : Int32} {o2 o5 : Option Value} {Q : Option Value → AH → Nat → Prop} (m33 : h 33 = some (MO s al)) (m41 : h 41 = some (IA 7 f1)) (m42 : h 42 = some (IA 7 f2)) (hq : Q (some (.int nn)) (hov h [(35, IA 7 (wbI g1 f1 6)), (36, IA 7 (wbI g2 f2 6))]) n) : ∀ (f k : Nat), k + f = 6 → EW l G yX4_rings cX4_rings 6 (some .int) 3 0 0 Q 0 0 (hov h [(35, IA 7 (wbI g1 f1 k)), (36, IA 7 (wbI g2 f2 k))]) n 298 [some (.ref 33), some (.int nn), o2, some (.int 0), some (.int (nI (k + 1))), o5] [] := by
  intro f
  induction f with
  | zero =>
    intro k  hk
    refine ew_iload (t := 300) dX4_rings_298 rfl rfl ?_
    refine ew_bipush (t := 302) (v := 7) dX4_rings_300 (by decide) rfl ?_
    refine ew_icmp_ge (t := 339) (t2 := 305) dX4_rings_302 rfl rfl (fun c_302 => ?_) (fun c_302 => ?_)
    · refine ew_iload_n (t := 340) dX4_rings_339 rfl rfl rfl ?_
      exact ew_iret rfl dX4_rings_340 (Nat.le_refl _) (Nat.le_refl _) (by obtain rfl : k = 6 := (by omega); exact hq)
    · exact absurd (show (7 : Int32) ≤ nI (k + 1) by rw [show k = 6 by omega]; decide) c_302
  | succ f ih =>
    intro k  hk
    refine ew_iload (t := 300) dX4_rings_298 rfl rfl ?_
    refine ew_bipush (t := 302) (v := 7) dX4_rings_300 (by decide) rfl ?_
    refine ew_icmp_ge (t := 339) (t2 := 305) dX4_rings_302 rfl rfl (fun c_302 => ?_) (fun c_302 => ?_)
    · exact absurd c_302 (nI_ge (b := 7) (by omega) (by omega))
    · refine ew_aload_n (t := 306) dX4_rings_305 rfl rfl rfl ?_
      refine ew_get (t := 309) (j := 1) (v := .ref 35) fcX4 m33 (Nat.le_of_ble_eq_true rfl) q1022 rfl dX4_rings_306 rfl ?_
      refine ew_iload (t := 311) dX4_rings_309 rfl rfl ?_
      refine ew_aload_n (t := 312) dX4_rings_311 rfl rfl rfl ?_
      refine ew_get (t := 315) (j := 10) (v := .ref 41) fcX4 m33 (Nat.le_of_ble_eq_true rfl) q1031 rfl dX4_rings_312 rfl ?_
      refine ew_iload (t := 317) dX4_rings_315 rfl rfl ?_
      refine ew_iald (t := 318) (j := (k + 1)) (N := 7) m41 (vp_in_nI (by omega) (by omega)) (nI_clamp (by omega)) dX4_rings_317 rfl ?_
      refine ew_iast (t := 319) (j := (k + 1)) (N := 7) (h' := (hov h [(35, IA 7 (upd (wbI g1 f1 k) (k + 1) (f1 (k + 1)))), (36, IA 7 (wbI g2 f2 k))])) rfl (vp_in_nI (by omega) (by omega)) (nI_clamp (by omega)) dX4_rings_318 (hov_up rfl) rfl ?_
      refine ew_aload_n (t := 320) dX4_rings_319 rfl rfl rfl ?_
      refine ew_get (t := 323) (j := 2) (v := .ref 36) fcX4 m33 (Nat.le_of_ble_eq_true rfl) q1023 rfl dX4_rings_320 rfl ?_
      refine ew_iload (t := 325) dX4_rings_323 rfl rfl ?_
      refine ew_aload_n (t := 326) dX4_rings_325 rfl rfl rfl ?_
      refine ew_get (t := 329) (j := 11) (v := .ref 42) fcX4 m33 (Nat.le_of_ble_eq_true rfl) q1032 rfl dX4_rings_326 rfl ?_
      refine ew_iload (t := 331) dX4_rings_329 rfl rfl ?_
      refine ew_iald (t := 332) (j := (k + 1)) (N := 7) m42 (vp_in_nI (by omega) (by omega)) (nI_clamp (by omega)) dX4_rings_331 rfl ?_
      refine ew_iast (t := 333) (j := (k + 1)) (N := 7) (h' := (hov h [(35, IA 7 (upd (wbI g1 f1 k) (k + 1) (f1 (k + 1)))), (36, IA 7 (upd (wbI g2 f2 k) (k + 1) (f2 (k + 1))))])) rfl (vp_in_nI (by omega) (by omega)) (nI_clamp (by omega)) dX4_rings_332 (hov_up rfl) rfl ?_
      refine ew_iinc (t := 336) (x := (nI (k + 1))) (v := ((nI (k + 1)) + 1)) (L' := [some (.ref 33), some (.int nn), o2, some (.int 0), some (.int ((nI (k + 1)) + 1)), o5]) dX4_rings_333 rfl rfl (Nat.le_of_ble_eq_true rfl) rfl rfl ?_
      refine ew_goto (t := 298) dX4_rings_336 rfl ?_
      rw [nI_1]
      exact ih (k + 1) (by omega)
theorem MC_I2 {s : Nat → Int32} {al : Int64} {F : Nat → Nat → Int32} {FL : Nat → Int64} {h : AH} {f g : Nat → Int32} (mc : MC s al F FL h) : MC s al (va_up (va_up F 35 f) 36 g) FL (hov h [(35, IA 7 f), (36, IA 7 g)]) := by
  rw [show hov h [(35, IA 7 f), (36, IA 7 g)] = hov h [(36, IA 7 g), (35, IA 7 f)] from by
    funext k
    show cond (Nat.beq k 35) (some (IA 7 f)) (cond (Nat.beq k 36) (some (IA 7 g)) (h k)) = cond (Nat.beq k 36) (some (IA 7 g)) (cond (Nat.beq k 35) (some (IA 7 f)) (h k))
    by_cases e : k = 35
    · subst e; rfl
    · rw [beq_ff e]; rfl]
  exact MC_I (c := 36) rfl (MC_I (c := 35) rfl (l := []) mc)
theorem hov_perm3 {h : AH} {a b c : Nat} {x y z : AC} (h1 : ¬ a = c) (h2 : ¬ b = c) : hov h [(a, x), (b, y), (c, z)] = hov h [(c, z), (a, x), (b, y)] := by
  funext k
  show cond (Nat.beq k a) (some x) (cond (Nat.beq k b) (some y) (cond (Nat.beq k c) (some z) (h k))) = cond (Nat.beq k c) (some z) (cond (Nat.beq k a) (some x) (cond (Nat.beq k b) (some y) (h k)))
  by_cases e : k = c
  · subst e
    rw [beq_ff (fun q => h1 q.symm), beq_ff (fun q => h2 q.symm)]
    simp
  · rw [beq_ff e]; rfl
set_option maxHeartbeats 600000 in
theorem mc_rings {l : Launch} {G : GW} {h : AH} {n : Nat} {s : Nat → Int32} {al : Int64} {F : Nat → Nat → Int32} {FL : Nat → Int64} (mc : MC s al F FL h) {tp : Nat} (h7 : s 7 = nI tp) (htp : tp ≤ 60) : AM l G yX4_rings cX4_rings 6 (some .int) 3 0 0 [.ref 33] h n (OpR h n (rngsP s F tp)) := by
  refine AM.of (L := [some (.ref 33), none, none, none, none, none]) (by decide) (Nat.le_of_ble_eq_true rfl) rfl ?_
  refine ew_ic0 (t := 1) dX4_rings_0 rfl ?_
  refine ew_istore_n (t := 2) (L' := [some (.ref 33), some (.int 0), none, none, none, none]) dX4_rings_1 rfl (Nat.le_of_ble_eq_true rfl) rfl rfl ?_
  refine EW.heap (h' := (hov h [(41, IA 7 (F 41)), (42, IA 7 (F 42))])) (hov_same2 (mI mc 41 rfl) (mI mc 42 rfl)).symm ?_
  refine lp_rings1 (f1 := F 35) (f2 := F 36) (g1 := F 41) (g2 := F 42) mc.1 (mI mc 35 rfl) (mI mc 36 rfl) ?_ 7 0 (by omega)
  refine ew_aload_n (t := 39) dX4_rings_38 rfl rfl rfl ?_
  refine ew_ic0 (t := 40) dX4_rings_39 rfl ?_
  refine ew_put (t := 43) (j := 8) (fs' := MOf (upd s 8 0) al) (h' := (hov h [(41, IA 7 (cpI (F 41) (F 35) 0 7)), (42, IA 7 (cpI (F 42) (F 36) 0 7)), (33, OB 4 (MOf (upd s 8 0) al))])) fcX4 mc.1 (Nat.le_of_ble_eq_true rfl) rfl q1029 rfl rfl (Nat.le_of_ble_eq_true rfl) rfl dX4_rings_40 (hov_up rfl) rfl ?_
  refine ew_aload_n (t := 44) dX4_rings_43 rfl rfl rfl ?_
  refine ew_ic0 (t := 45) dX4_rings_44 rfl ?_
  refine ew_put (t := 48) (j := 9) (fs' := MOf (upd (upd s 8 0) 9 0) al) (h' := (hov h [(41, IA 7 (cpI (F 41) (F 35) 0 7)), (42, IA 7 (cpI (F 42) (F 36) 0 7)), (33, OB 4 (MOf (upd (upd s 8 0) 9 0) al))])) fcX4 rfl (Nat.le_of_ble_eq_true rfl) rfl q1030 (by decide) (by decide) (Nat.le_of_ble_eq_true rfl) rfl dX4_rings_45 (hov_up rfl) rfl ?_
  refine ew_ic0 (t := 49) dX4_rings_48 rfl ?_
  refine ew_istore_n (t := 50) (L' := [some (.ref 33), some (.int 0), none, none, none, none]) dX4_rings_49 rfl (Nat.le_of_ble_eq_true rfl) rfl rfl ?_
  refine ew_ic0 (t := 51) dX4_rings_50 rfl ?_
  refine ew_istore_n (t := 52) (L' := [some (.ref 33), some (.int 0), some (.int 0), none, none, none]) dX4_rings_51 rfl (Nat.le_of_ble_eq_true rfl) rfl rfl ?_
  refine ew_ic1 (t := 53) dX4_rings_52 rfl ?_
  refine ew_istore_n (t := 54) (L' := [some (.ref 33), some (.int 0), some (.int 0), some (.int 1), none, none]) dX4_rings_53 rfl (Nat.le_of_ble_eq_true rfl) rfl rfl ?_
  refine EW.heap (h' := (hov h [(33, MO (upd (upd s 8 0) 9 0) al), (41, IA 7 (cpI (F 41) (F 35) 0 7)), (42, IA 7 (cpI (F 42) (F 36) 0 7))])) (hov_perm3 (by decide) (by decide)) ?_
  refine lp_rings (s := s) (T := F 40) (tp := tp) (Z := rngsZ F tp) (mI mc 40 rfl) h7 htp (fun s' o2 o4 o5 hs => ?_) 5 0 0 0 (cpI (F 41) (F 35) 0 7) (cpI (F 42) (F 36) 0 7) (upd (upd s 8 0) 9 0) none none (by omega) (by omega) (by omega) ⟨rfl, rfl, fun j h1 h2 => by rw [pk_un h2, pk_un h1]⟩ rfl
  refine ew_aload_n (t := 253) dX4_rings_252 rfl rfl rfl ?_
  refine ew_aload_n (t := 254) dX4_rings_253 rfl rfl rfl ?_
  refine ew_get (t := 257) (j := 9) (v := .int (s' 9)) fcX4 rfl (Nat.le_of_ble_eq_true rfl) q1030 rfl dX4_rings_254 rfl ?_
  rw [hs.2.1]
  refine ew_if_ne (t := 267) (t2 := 260) dX4_rings_257 rfl rfl (fun c_257 => ?_) (fun c_257 => ?_)
  · refine ew_ic1 (t := 268) dX4_rings_267 rfl ?_
    refine ew_goto (t := 272) dX4_rings_268 rfl ?_
    refine ew_put (t := 275) (j := 9) (fs' := MOf (upd s' 9 1) al) (h' := (hov h [(33, OB 4 (MOf (upd s' 9 1) al)), (41, IA 7 ((rngsZ F tp).2.2.2.1)), (42, IA 7 ((rngsZ F tp).2.2.2.2))])) fcX4 rfl (Nat.le_of_ble_eq_true rfl) rfl q1030 (by decide) (by decide) (Nat.le_of_ble_eq_true rfl) rfl dX4_rings_272 (hov_up rfl) rfl ?_
    refine ew_aload_n (t := 276) dX4_rings_275 rfl rfl rfl ?_
    refine ew_ic0 (t := 277) dX4_rings_276 rfl ?_
    refine ew_put (t := 280) (j := 7) (fs' := MOf (upd (upd s' 7 0) 9 1) al) (h' := (hov h [(33, OB 4 (MOf (upd (upd s' 7 0) 9 1) al)), (41, IA 7 ((rngsZ F tp).2.2.2.1)), (42, IA 7 ((rngsZ F tp).2.2.2.2))])) fcX4 rfl (Nat.le_of_ble_eq_true rfl) rfl q1028 rfl rfl (Nat.le_of_ble_eq_true rfl) rfl dX4_rings_277 (hov_up rfl) rfl ?_
    refine ew_aload_n (t := 281) dX4_rings_280 rfl rfl rfl ?_
    refine ew_get (t := 284) (j := 9) (v := .int 1) fcX4 rfl (Nat.le_of_ble_eq_true rfl) q1030 rfl dX4_rings_281 rfl ?_
    refine ew_if_eq (t := 295) (t2 := 287) dX4_rings_284 rfl rfl (fun c_284 => ?_) (fun c_284 => ?_)
    · exact absurd c_284 (by decide)
    · refine ew_bipush (t := 289) (v := (-20)) dX4_rings_287 (by decide) rfl ?_
      refine ew_aload_n (t := 290) dX4_rings_289 rfl rfl rfl ?_
      refine ew_get (t := 293) (j := 8) (v := .int (s' 8)) fcX4 rfl (Nat.le_of_ble_eq_true rfl) q1029 rfl dX4_rings_290 rfl ?_
      refine ew_isub (t := 294) dX4_rings_293 rfl ?_
      exact ew_iret rfl dX4_rings_294 (Nat.le_refl _) (Nat.le_refl _) (by unfold rngsP rngsE; rw [if_pos c_257]; exact ⟨rfl, by rw [hs.1], hov_fr 33 63 rfl, _, al, _, FL, MC_33 (MC_I (c := 41) rfl (l := [(42, IA 7 (rngsZ F tp).2.2.2.2)]) (MC_I (c := 42) rfl (l := []) mc)), fun k hk => (va_up_ne _ _ (by intro e; rw [e] at hk; cases hk)).trans (va_up_ne _ _ (by intro e; rw [e] at hk; cases hk)), rfl, by show s' 25 = s 25; exact hs.2.2 25 (by decide) (by decide), by show s' 27 = s 27; exact hs.2.2 27 (by decide) (by decide), by show s' 37 = s 37; exact hs.2.2 37 (by decide) (by decide)⟩)
  · refine ew_aload_n (t := 261) dX4_rings_260 rfl rfl rfl ?_
    refine ew_callV (t := 264) (As := []) (am_here (h := hov h [(41, IA 7 (rngsZ F tp).2.2.2.1), (42, IA 7 (rngsZ F tp).2.2.2.2)]) (s := s') (a := (rngsZ F tp).1) (mI mc 40 rfl) ((hs.2.2 7 (by decide) (by decide)).trans h7) hs.1 (rgR_le htp 5 0 0 0 _ _ (by omega) (by omega)) htp) (fcX4).1 rfl (lw_V q1192 q1194 qs31 q60 q1195) rfl naX4_here dX4_rings_261 rfl (Nat.le_of_ble_eq_true rfl) (Nat.le_of_ble_eq_true rfl) (Nat.le_refl _) (Nat.le_refl _) (Nat.le_of_ble_eq_true rfl) rfl (qi ?_)
    refine EW.heap (h' := (hov h [(33, OB 4 (MOf (upd s' 8 (nI (hrN (F 40) tp (rngsZ F tp).1))) al)), (41, IA 7 ((rngsZ F tp).2.2.2.1)), (42, IA 7 ((rngsZ F tp).2.2.2.2))])) rfl ?_
    refine ew_if_eq (t := 271) (t2 := 267) dX4_rings_264 rfl rfl (fun c_264 => ?_) (fun c_264 => ?_)
    · refine ew_ic0 (t := 272) dX4_rings_271 rfl ?_
      refine ew_put (t := 275) (j := 9) (fs' := MOf (upd (upd s' 8 (nI (hrN (F 40) tp (rngsZ F tp).1))) 9 0) al) (h' := (hov h [(33, OB 4 (MOf (upd (upd s' 8 (nI (hrN (F 40) tp (rngsZ F tp).1))) 9 0) al)), (41, IA 7 ((rngsZ F tp).2.2.2.1)), (42, IA 7 ((rngsZ F tp).2.2.2.2))])) fcX4 rfl (Nat.le_of_ble_eq_true rfl) rfl q1030 (by decide) (by decide) (Nat.le_of_ble_eq_true rfl) rfl dX4_rings_272 (hov_up rfl) rfl ?_
      refine ew_aload_n (t := 276) dX4_rings_275 rfl rfl rfl ?_
      refine ew_ic0 (t := 277) dX4_rings_276 rfl ?_
      refine ew_put (t := 280) (j := 7) (fs' := MOf (upd (upd (upd s' 7 0) 8 (nI (hrN (F 40) tp (rngsZ F tp).1))) 9 0) al) (h' := (hov h [(33, OB 4 (MOf (upd (upd (upd s' 7 0) 8 (nI (hrN (F 40) tp (rngsZ F tp).1))) 9 0) al)), (41, IA 7 ((rngsZ F tp).2.2.2.1)), (42, IA 7 ((rngsZ F tp).2.2.2.2))])) fcX4 rfl (Nat.le_of_ble_eq_true rfl) rfl q1028 rfl rfl (Nat.le_of_ble_eq_true rfl) rfl dX4_rings_277 (hov_up rfl) rfl ?_
      refine ew_aload_n (t := 281) dX4_rings_280 rfl rfl rfl ?_
      refine ew_get (t := 284) (j := 9) (v := .int 0) fcX4 rfl (Nat.le_of_ble_eq_true rfl) q1030 rfl dX4_rings_281 rfl ?_
      refine ew_if_eq (t := 295) (t2 := 287) dX4_rings_284 rfl rfl (fun c_284 => ?_) (fun c_284 => ?_)
      · refine ew_ic1 (t := 296) dX4_rings_295 rfl ?_
        refine ew_istore (t := 298) (L' := [some (.ref 33), some (.int (nI (rngsZ F tp).2.2.1)), o2, some (.int 0), some (.int 1), o5]) dX4_rings_296 (Nat.le_of_ble_eq_true rfl) rfl rfl ?_
        refine EW.heap (h' := hov (hov h [(33, OB 4 (MOf (upd (upd (upd s' 7 0) 8 (nI (hrN (F 40) tp (rngsZ F tp).1))) 9 0) al)), (41, IA 7 ((rngsZ F tp).2.2.2.1)), (42, IA 7 ((rngsZ F tp).2.2.2.2))]) [(35, IA 7 (F 35)), (36, IA 7 (F 36))]) (hov_same2 (show (hov h [(33, OB 4 (MOf (upd (upd (upd s' 7 0) 8 (nI (hrN (F 40) tp (rngsZ F tp).1))) 9 0) al)), (41, IA 7 ((rngsZ F tp).2.2.2.1)), (42, IA 7 ((rngsZ F tp).2.2.2.2))]) 35 = some (IA 7 (F 35)) from mI mc 35 rfl) (show (hov h [(33, OB 4 (MOf (upd (upd (upd s' 7 0) 8 (nI (hrN (F 40) tp (rngsZ F tp).1))) 9 0) al)), (41, IA 7 ((rngsZ F tp).2.2.2.1)), (42, IA 7 ((rngsZ F tp).2.2.2.2))]) 36 = some (IA 7 (F 36)) from mI mc 36 rfl)).symm ?_
        refine lp_rings2 (h := (hov h [(33, OB 4 (MOf (upd (upd (upd s' 7 0) 8 (nI (hrN (F 40) tp (rngsZ F tp).1))) 9 0) al)), (41, IA 7 ((rngsZ F tp).2.2.2.1)), (42, IA 7 ((rngsZ F tp).2.2.2.2))])) (g1 := F 35) (g2 := F 36) (f1 := (rngsZ F tp).2.2.2.1) (f2 := (rngsZ F tp).2.2.2.2) rfl rfl rfl ?_ 6 0 (by omega)
        unfold rngsP rngsE
        rw [if_neg (not_not_intro c_257), if_pos c_264]
        exact ⟨rfl, rfl, fun k hk => (hov_fr 33 63 rfl k hk).trans (hov_fr 33 63 rfl k hk), _, al, _, FL, MC_I2 (MC_33 (MC_I (c := 41) rfl (l := [(42, IA 7 (rngsZ F tp).2.2.2.2)]) (MC_I (c := 42) rfl (l := []) mc))), keep_up (keep_up (fun k hk => (va_up_ne _ _ (by intro e; rw [e] at hk; cases hk)).trans (va_up_ne _ _ (by intro e; rw [e] at hk; cases hk)))), rfl, by show s' 25 = s 25; exact hs.2.2 25 (by decide) (by decide), by show s' 27 = s 27; exact hs.2.2 27 (by decide) (by decide), by show s' 37 = s 37; exact hs.2.2 37 (by decide) (by decide)⟩
      · exact absurd c_284 (by decide)
    · refine ew_ic1 (t := 268) dX4_rings_267 rfl ?_
      refine ew_goto (t := 272) dX4_rings_268 rfl ?_
      refine ew_put (t := 275) (j := 9) (fs' := MOf (upd (upd s' 8 (nI (hrN (F 40) tp (rngsZ F tp).1))) 9 1) al) (h' := (hov h [(33, OB 4 (MOf (upd (upd s' 8 (nI (hrN (F 40) tp (rngsZ F tp).1))) 9 1) al)), (41, IA 7 ((rngsZ F tp).2.2.2.1)), (42, IA 7 ((rngsZ F tp).2.2.2.2))])) fcX4 rfl (Nat.le_of_ble_eq_true rfl) rfl q1030 (by decide) (by decide) (Nat.le_of_ble_eq_true rfl) rfl dX4_rings_272 (hov_up rfl) rfl ?_
      refine ew_aload_n (t := 276) dX4_rings_275 rfl rfl rfl ?_
      refine ew_ic0 (t := 277) dX4_rings_276 rfl ?_
      refine ew_put (t := 280) (j := 7) (fs' := MOf (upd (upd (upd s' 7 0) 8 (nI (hrN (F 40) tp (rngsZ F tp).1))) 9 1) al) (h' := (hov h [(33, OB 4 (MOf (upd (upd (upd s' 7 0) 8 (nI (hrN (F 40) tp (rngsZ F tp).1))) 9 1) al)), (41, IA 7 ((rngsZ F tp).2.2.2.1)), (42, IA 7 ((rngsZ F tp).2.2.2.2))])) fcX4 rfl (Nat.le_of_ble_eq_true rfl) rfl q1028 rfl rfl (Nat.le_of_ble_eq_true rfl) rfl dX4_rings_277 (hov_up rfl) rfl ?_
      refine ew_aload_n (t := 281) dX4_rings_280 rfl rfl rfl ?_
      refine ew_get (t := 284) (j := 9) (v := .int 1) fcX4 rfl (Nat.le_of_ble_eq_true rfl) q1030 rfl dX4_rings_281 rfl ?_
      refine ew_if_eq (t := 295) (t2 := 287) dX4_rings_284 rfl rfl (fun c_284 => ?_) (fun c_284 => ?_)
      · exact absurd c_284 (by decide)
      · refine ew_bipush (t := 289) (v := (-20)) dX4_rings_287 (by decide) rfl ?_
        refine ew_aload_n (t := 290) dX4_rings_289 rfl rfl rfl ?_
        refine ew_get (t := 293) (j := 8) (v := .int (nI (hrN (F 40) tp (rngsZ F tp).1))) fcX4 rfl (Nat.le_of_ble_eq_true rfl) q1029 rfl dX4_rings_290 rfl ?_
        refine ew_isub (t := 294) dX4_rings_293 rfl ?_
        exact ew_iret rfl dX4_rings_294 (Nat.le_refl _) (Nat.le_refl _) (by unfold rngsP rngsE; rw [if_neg (not_not_intro c_257), if_neg c_264]; exact ⟨rfl, rfl, hov_fr 33 63 rfl, _, al, _, FL, MC_33 (MC_I (c := 41) rfl (l := [(42, IA 7 (rngsZ F tp).2.2.2.2)]) (MC_I (c := 42) rfl (l := []) mc)), fun k hk => (va_up_ne _ _ (by intro e; rw [e] at hk; cases hk)).trans (va_up_ne _ _ (by intro e; rw [e] at hk; cases hk)), rfl, by show s' 25 = s 25; exact hs.2.2 25 (by decide) (by decide), by show s' 27 = s 27; exact hs.2.2 27 (by decide) (by decide), by show s' 37 = s 37; exact hs.2.2 37 (by decide) (by decide)⟩)
