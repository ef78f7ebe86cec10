-- Obj fields dict_keys(['cls', 'fun', 'sname', 'refs', 'extra', 'ups'])
/-! the component: findOdds -/
set_option maxRecDepth 100000
theorem fo_d {F : Nat → Nat → Int32} {ld : Bool} {c x0 k np nd : Nat} {wo : Int32} (ok : OKP F np nd) (hk : k < nd) (h : ld = decide (wo = 12)) : lN (x0 * dN F ld c k) * (if ¬ wo = 12 then (if ¬ nI c = F 53 k then (8 : Int32) else 8 - F 54 k).toInt64 else 1) = lN (x0 * dN F ld c (k + 1)) := by
  rw [dN, h]
  by_cases q : wo = 12
  · rw [if_neg (not_not_intro q), decide_eq_true q, if_pos rfl, Nat.mul_one, Int64.mul_one]
  · obtain ⟨d, d1, d2, d3⟩ := ok.2.1 k hk
    rw [if_pos q, decide_eq_false q, if_neg (show ¬ (false = true) by decide)]
    unfold dfN
    by_cases e : F 53 k = nI c
    · rw [if_neg (not_not_intro e.symm), if_pos e, d3, nI_clamp (by omega), show (8 : Int32) - nI d = nI (8 - d) from by rw [show (8 : Int32) = nI ((8 - d) + d) from by rw [show 8 - d + d = 8 by omega]; rfl]; exact nI_sub2 _ _, nI_l (by omega), lN_mul, Nat.mul_assoc]
    · rw [if_pos (fun z => e z.symm), if_neg e, show (8 : Int32).toInt64 = lN 8 from rfl, lN_mul, Nat.mul_assoc]
def sN (F : Nat → Nat → Int32) (lp : Nat → Bool) (ld : Bool) (EN : Nat → Nat) (np nd c : Nat) : Nat := EN c * pN F lp c np * dN F ld c nd
def foA (f : Nat → Int64) (SN : Nat → Nat) : Nat → Nat → Int64
  | 0 => f
  | k + 1 => vp_updL (foA f SN k) k (lN (SN k))
def foS (SN : Nat → Nat) : Nat → Nat
  | 0 => 0
  | k + 1 => foS SN k + SN k
theorem foA_get {f : Nat → Int64} {SN : Nat → Nat} {j : Nat} : ∀ k, j < k → foA f SN k j = lN (SN j)
  | 0, h => by omega
  | k + 1, h => by
    show vp_updL (foA f SN k) k (lN (SN k)) j = _
    unfold vp_updL
    by_cases e : j = k
    · rw [if_pos e, e]
    · rw [if_neg e]; exact foA_get k (by omega)
theorem XR_tc {F : Nat → Nat → Int32} {np nd n tc : Nat} {h : AH} {c : AC} (hn : 63 ≤ n) (htc : tc = 17 ∨ tc = 18) (xr : XR F np nd h n) : XR F np nd (hov h [(tc, c)]) n := by
  obtain ⟨⟨s, x1⟩, ⟨t1, t2, t3, t4, t5, t6, t7⟩, l1, l2⟩ := xr
  exact ⟨⟨s, (hv_miss (by omega)).trans x1⟩, ⟨(hv_miss (by omega)).trans t1, (hv_miss (by omega)).trans t2, (hv_miss (by omega)).trans t3, (hv_miss (by omega)).trans t4, (hv_miss (by omega)).trans t5, (hv_miss (by omega)).trans t6, (hv_miss (by omega)).trans t7⟩, l1.mono (by omega) (fun k h1 h2 => hv_miss (by omega)) (Nat.le_refl _), l2.mono (by omega) (fun k h1 h2 => hv_miss (by omega)) (Nat.le_refl _)⟩
set_option maxHeartbeats 600000 in
theorem lx_fo2 {l : Launch} {G : GW} {h : AH} {n : Nat} {F : Nat → Nat → Int32} {np nd n2 : Nat} (xr : XR F np nd h n2) (ok : OKP F np nd) {Q : Option Value → AH → Nat → Prop} {wo : Int32} {tc en c : Nat} {al : Int64} {x0 : Nat} {ld : Bool} (hc : c < 100) (hld : ld = decide (wo = 12)) (kk : ∀ o9 : Option Value, EW l G yX0_findOdds cX0_findOdds 10 (some .long) 33 2 101 Q 2 101 h n 179 [some (.ref 1), some (.int wo), some (.ref tc), some (.ref en), some (.long al), none, some (.int (nI c)), some (.long (lN (x0 * dN F ld c nd))), none, o9] []) : ∀ (f1 k : Nat), k + f1 = nd → EW l G yX0_findOdds cX0_findOdds 10 (some .long) 33 2 101 Q 2 101 h n 118 [some (.ref 1), some (.int wo), some (.ref tc), some (.ref en), some (.long al), none, some (.int (nI c)), some (.long (lN (x0 * dN F ld c k))), none, some (.int (nI k))] [] := by
  intro f1
  induction f1 with
  | zero =>
    intro k hk
    obtain ⟨s, x1⟩ := xr.1
    have hnd := xr.2.2.2.1
    obtain ⟨mo, e, xc, hsz⟩ := xr.2.2.2.size
    refine ew_iload (t := 120) dX0_findOdds_118 rfl rfl ?_
    refine ew_aload_n (t := 121) dX0_findOdds_120 rfl rfl rfl ?_
    refine ew_get (t := 124) (j := 0) (v := .ref 2) fcX0 x1 (Nat.le_of_ble_eq_true rfl) q255 rfl dX0_findOdds_121 rfl ?_
    refine ew_getN (t := 127) (j := 7) (v := .ref 10) fcX1 xr.2.1.1 (Nat.le_of_ble_eq_true rfl) q142 rfl dX0_findOdds_124 rfl ?_
    refine ew_callF (t := 132) (As := []) (hsz l G n) (fcJ2).1 xc (lw_F q557 q561 q563 q55 q565) fw_size naI_J2_size dX0_findOdds_127 rfl (Nat.le_of_ble_eq_true rfl) (Nat.le_of_ble_eq_true rfl) (by omega) (by omega) (Nat.le_of_ble_eq_true rfl) rfl (qi ?_)
    refine ew_icmp_ge (t := 179) (t2 := 135) dX0_findOdds_132 rfl rfl (fun c_132 => ?_) (fun c_132 => ?_)
    · have ek : k = nd := by omega
      subst ek
      exact kk _
    · exact absurd (show nI nd ≤ nI k by rw [show k = nd by omega]; exact Int32.le_refl _) c_132
  | succ f1 ih =>
    intro k hk
    obtain ⟨s, x1⟩ := xr.1
    have hnd := xr.2.2.2.1
    obtain ⟨mo, e, xc, hsz⟩ := xr.2.2.2.size
    refine ew_iload (t := 120) dX0_findOdds_118 rfl rfl ?_
    refine ew_aload_n (t := 121) dX0_findOdds_120 rfl rfl rfl ?_
    refine ew_get (t := 124) (j := 0) (v := .ref 2) fcX0 x1 (Nat.le_of_ble_eq_true rfl) q255 rfl dX0_findOdds_121 rfl ?_
    refine ew_getN (t := 127) (j := 7) (v := .ref 10) fcX1 xr.2.1.1 (Nat.le_of_ble_eq_true rfl) q142 rfl dX0_findOdds_124 rfl ?_
    refine ew_callF (t := 132) (As := []) (hsz l G n) (fcJ2).1 xc (lw_F q557 q561 q563 q55 q565) fw_size naI_J2_size dX0_findOdds_127 rfl (Nat.le_of_ble_eq_true rfl) (Nat.le_of_ble_eq_true rfl) (by omega) (by omega) (Nat.le_of_ble_eq_true rfl) rfl (qi ?_)
    refine ew_icmp_ge (t := 179) (t2 := 135) dX0_findOdds_132 rfl rfl (fun c_132 => ?_) (fun c_132 => ?_)
    · exact absurd c_132 (nI_ge (by omega) (by omega))
    · refine ew_lload (t := 137) dX0_findOdds_135 rfl rfl ?_
      refine ew_iload_n (t := 138) dX0_findOdds_137 rfl rfl rfl ?_
      refine ew_bipush (t := 140) (v := 12) dX0_findOdds_138 (by decide) rfl ?_
      have J170 : ∀ (j170_0 : Int64), j170_0 = ((if ¬ wo = 12 then (if ¬ nI c = F 53 k then 8 else 8 - F 54 k).toInt64 else 1) : Int64) → EW l G yX0_findOdds cX0_findOdds 10 (some .long) 33 2 101 Q 2 101 h n 170 [some (.ref 1), some (.int wo), some (.ref tc), some (.ref en), some (.long al), none, some (.int (nI c)), some (.long (lN (x0 * dN F ld c k))), none, some (.int (nI k))] [.long j170_0, .long (lN (x0 * dN F ld c k))] := by
        intro j170_0 hj170_0
        refine ew_lmul (t := 171) dX0_findOdds_170 rfl ?_
        rw [hj170_0, fo_d ok (by omega) hld]
        refine ew_lstore (t := 173) (L' := [some (.ref 1), some (.int wo), some (.ref tc), some (.ref en), some (.long al), none, some (.int (nI c)), some (.long (lN (x0 * dN F ld c (k + 1)))), none, some (.int (nI k))]) dX0_findOdds_171 (Nat.le_of_ble_eq_true rfl) rfl rfl ?_
        refine ew_iinc (t := 176) (x := (nI k)) (v := ((nI k) + 1)) (L' := [some (.ref 1), some (.int wo), some (.ref tc), some (.ref en), some (.long al), none, some (.int (nI c)), some (.long (lN (x0 * dN F ld c (k + 1)))), none, some (.int ((nI k) + 1))]) dX0_findOdds_173 rfl rfl (Nat.le_of_ble_eq_true rfl) rfl rfl ?_
        refine ew_goto (t := 118) dX0_findOdds_176 rfl ?_
        rw [nI_1]
        exact ih (k + 1) (by omega)
      refine ew_icmp_ne (t := 147) (t2 := 143) dX0_findOdds_140 rfl rfl (fun c_140 => ?_) (fun c_140 => ?_)
      · refine ew_aload_n (t := 148) dX0_findOdds_147 rfl rfl rfl ?_
        refine ew_get (t := 151) (j := 0) (v := .ref 2) fcX0 x1 (Nat.le_of_ble_eq_true rfl) q255 rfl dX0_findOdds_148 rfl ?_
        refine ew_getN (t := 154) (j := 7) (v := .ref 10) fcX1 xr.2.1.1 (Nat.le_of_ble_eq_true rfl) q142 rfl dX0_findOdds_151 rfl ?_
        refine ew_iload (t := 156) dX0_findOdds_154 rfl rfl ?_
        obtain ⟨mo2, e2, p, xc2, hp1, hp2, xp, hget⟩ := xr.2.2.2.get (k := k) (by omega)
        refine ew_callF (t := 161) (As := [_]) (hget l G n) (fcJ2).1 xc (lw_F q672 q675 q677 q55 q679) fw_get naI_J2_get dX0_findOdds_156 rfl (Nat.le_of_ble_eq_true rfl) (Nat.le_of_ble_eq_true rfl) (by omega) (by omega) (Nat.le_of_ble_eq_true rfl) rfl (qr ?_)
        refine ew_castO (t := 164) (fcX10).1 xp q702 dX0_findOdds_161 rfl ?_
        refine ew_iload (t := 166) dX0_findOdds_164 rfl rfl ?_
        refine ew_callV (t := 169) (As := [_]) (ax_misses (dc := F 53 k) (db := F 54 k) xp (nI c)) (fcX10).1 xp (lw_V q749 q750 q751 q72 q752) rfl naX10_misses dX0_findOdds_166 rfl (Nat.le_of_ble_eq_true rfl) (Nat.le_of_ble_eq_true rfl) (by omega) (by omega) (Nat.le_of_ble_eq_true rfl) rfl (qi ?_)
        refine ew_i2l (t := 170) dX0_findOdds_169 rfl ?_
        exact J170 (if ¬ nI c = F 53 k then 8 else 8 - F 54 k).toInt64 (by simp only [if_pos c_140])
      · refine ew_lc1 (t := 144) dX0_findOdds_143 rfl ?_
        refine ew_goto (t := 170) dX0_findOdds_144 rfl ?_
        exact J170 1 (by simp only [if_neg (not_not_intro c_140)])
set_option maxHeartbeats 600000 in
theorem lx_fo3 {l : Launch} {G : GW} {h : AH} {n : Nat} {F : Nat → Nat → Int32} {np nd n2 : Nat} (hn2 : 63 ≤ n2) (xr : XR F np nd h n2) (ok : OKP F np nd) {Q : Option Value → AH → Nat → Prop} {wo : Int32} {tc en : Nat} (hen : 63 ≤ en) (htc : tc = 17 ∨ tc = 18) {E f0 : Nat → Int64} {EN : Nat → Nat} {lp : Nat → Bool} {ld : Bool} (hlp : ∀ j, j < np → lp j = decide (wo = 8 + nI j)) (hld : ld = decide (wo = 12)) (xen : h en = some (OB 10 [.ref (en + 1)])) (xea : h (en + 1) = some (JA 100 E)) (hE : ∀ j, j < 100 → E j = lN (EN j) ∧ EN j < 2 ^ 30) (hq : Q (some (.long (lN (foS (sN F lp ld EN np nd) 100)))) (hov h [(tc, JA 100 (foA f0 (sN F lp ld EN np nd) 100))]) n) : ∀ (f1 k : Nat) (o7 o8 o9 : Option Value), k + f1 = 100 → EW l G yX0_findOdds cX0_findOdds 10 (some .long) 33 2 101 Q 2 101 (hov h [(tc, JA 100 (foA f0 (sN F lp ld EN np nd) k))]) n 21 [some (.ref 1), some (.int wo), some (.ref tc), some (.ref en), some (.long (lN (foS (sN F lp ld EN np nd) k))), none, some (.int (nI k)), o7, o8, o9] [] := by
  intro f1
  induction f1 with
  | zero =>
    intro k o7 o8 o9 hk
    refine ew_iload (t := 23) dX0_findOdds_21 rfl rfl ?_
    refine ew_bipush (t := 25) (v := 100) dX0_findOdds_23 (by decide) rfl ?_
    refine ew_icmp_ge (t := 198) (t2 := 28) dX0_findOdds_25 rfl rfl (fun c_25 => ?_) (fun c_25 => ?_)
    · refine ew_lload (t := 200) dX0_findOdds_198 rfl rfl ?_
      exact ew_lret rfl dX0_findOdds_200 (by decide) (by decide) (by rw [show k = 100 by omega]; exact hq)
    · exact absurd (show (100 : Int32) ≤ nI k by rw [show k = 100 by omega]; decide) c_25
  | succ f1 ih =>
    intro k o7 o8 o9 hk
    refine ew_iload (t := 23) dX0_findOdds_21 rfl rfl ?_
    refine ew_bipush (t := 25) (v := 100) dX0_findOdds_23 (by decide) rfl ?_
    refine ew_icmp_ge (t := 198) (t2 := 28) dX0_findOdds_25 rfl rfl (fun c_25 => ?_) (fun c_25 => ?_)
    · exact absurd c_25 (nI_ge (b := 100) (by omega) (by omega))
    · refine ew_aload_n (t := 29) dX0_findOdds_28 rfl rfl rfl ?_
      refine ew_getN (t := 32) (j := 0) (v := .ref (en + 1)) fcX11 ((hv_miss (by omega)).trans xen) (Nat.le_of_ble_eq_true rfl) q745 rfl dX0_findOdds_29 rfl ?_
      refine ew_iload (t := 34) dX0_findOdds_32 rfl rfl ?_
      refine ew_lald (t := 35) (j := k) (N := 100) ((hv_miss (by omega)).trans xea) (vp_in_nI (by omega) (by omega)) (nI_clamp (by omega)) dX0_findOdds_34 rfl ?_
      rw [(hE k (by omega)).1]
      refine ew_lstore (t := 37) (L' := [some (.ref 1), some (.int wo), some (.ref tc), some (.ref en), some (.long (lN (foS (sN F lp ld EN np nd) k))), none, some (.int (nI k)), some (.long (lN (EN k))), none, o9]) dX0_findOdds_35 (Nat.le_of_ble_eq_true rfl) rfl rfl ?_
      refine ew_ic0 (t := 38) dX0_findOdds_37 rfl ?_
      refine ew_istore (t := 40) (L' := [some (.ref 1), some (.int wo), some (.ref tc), some (.ref en), some (.long (lN (foS (sN F lp ld EN np nd) k))), none, some (.int (nI k)), some (.long (lN (EN k))), none, some (.int 0)]) dX0_findOdds_38 (Nat.le_of_ble_eq_true rfl) rfl rfl ?_
      rw [show EN k = EN k * pN F lp k 0 from (Nat.mul_one _).symm]
      refine lx_fo1 (c := k) (e0 := EN k) (lp := lp) (XR_tc hn2 htc xr) ok (by omega) (hE k (by omega)).2 hlp (fun o9 => ?_) np 0 (by omega)
      refine ew_ic0 (t := 116) dX0_findOdds_115 rfl ?_
      refine ew_istore (t := 118) (L' := [some (.ref 1), some (.int wo), some (.ref tc), some (.ref en), some (.long (lN (foS (sN F lp ld EN np nd) k))), none, some (.int (nI k)), some (.long (lN (EN k * pN F lp k np))), none, some (.int 0)]) dX0_findOdds_116 (Nat.le_of_ble_eq_true rfl) rfl rfl ?_
      rw [show EN k * pN F lp k np = EN k * pN F lp k np * dN F ld k 0 from (Nat.mul_one _).symm]
      refine lx_fo2 (c := k) (x0 := EN k * pN F lp k np) (ld := ld) (XR_tc hn2 htc xr) ok (by omega) hld (fun o9 => ?_) nd 0 (by omega)
      refine ew_aload_n (t := 180) dX0_findOdds_179 rfl rfl rfl ?_
      refine ew_iload (t := 182) dX0_findOdds_180 rfl rfl ?_
      refine ew_lload (t := 184) dX0_findOdds_182 rfl rfl ?_
      refine ew_last (t := 185) (j := k) (N := 100) (h' := (hov h [(tc, JA 100 (vp_updL (foA f0 (sN F lp ld EN np nd) k) k (lN ((sN F lp ld EN np nd) k))))])) hv_hit (vp_in_nI (by omega) (by omega)) (nI_clamp (by omega)) dX0_findOdds_184 hov_set_hit rfl ?_
      refine ew_lload (t := 187) dX0_findOdds_185 rfl rfl ?_
      refine ew_lload (t := 189) dX0_findOdds_187 rfl rfl ?_
      refine ew_ladd (t := 190) dX0_findOdds_189 rfl ?_
      rw [lN_add]
      refine ew_lstore (t := 192) (L' := [some (.ref 1), some (.int wo), some (.ref tc), some (.ref en), some (.long (lN (foS (sN F lp ld EN np nd) k + (sN F lp ld EN np nd) k))), none, some (.int (nI k)), some (.long (lN ((sN F lp ld EN np nd) k))), none, o9]) dX0_findOdds_190 (Nat.le_of_ble_eq_true rfl) rfl rfl ?_
      refine ew_iinc (t := 195) (x := (nI k)) (v := ((nI k) + 1)) (L' := [some (.ref 1), some (.int wo), some (.ref tc), some (.ref en), some (.long (lN (foS (sN F lp ld EN np nd) k + (sN F lp ld EN np nd) k))), none, some (.int ((nI k) + 1)), some (.long (lN ((sN F lp ld EN np nd) k))), none, o9]) dX0_findOdds_192 rfl rfl (Nat.le_of_ble_eq_true rfl) rfl rfl ?_
      refine ew_goto (t := 21) dX0_findOdds_195 rfl ?_
      rw [nI_1]
      exact ih (k + 1) _ _ _ (by omega)
