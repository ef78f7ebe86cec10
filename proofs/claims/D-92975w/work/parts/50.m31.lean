-- Obj fields dict_keys(['cls', 'fun', 'sname', 'refs', 'extra', 'ups'])
/-! the reference: copy -/
set_option maxRecDepth 100000
theorem refI_ok2 {LN SZ : Nat → Int32} {t m z : Nat} {lane i : Int32} (hm : m < 2 ^ 31) (hz : z ≤ 16) (eZ : SZ t = nI z) (h : 0 ≤ refI LN SZ t lane i (nI m)) : ∃ k, i = nI k ∧ k + m ≤ z := by
  unfold refI at h
  by_cases c1 : 0 ≤ LN t
  · rw [if_pos c1] at h
    by_cases c2 : LN t = lane
    · rw [if_pos c2] at h
      by_cases c3 : i < 0
      · rw [if_pos c3] at h; exact absurd h (by decide)
      · rw [if_neg c3] at h
        by_cases c4 : i.toInt64 + (nI m).toInt64 ≤ (SZ t).toInt64
        · obtain ⟨k, hk, rfl⟩ := nI_of c3
          refine ⟨k, rfl, ?_⟩
          rw [eZ] at c4
          rw [nI_l (by omega), nI_l (by omega), nI_l (by omega), lN_add] at c4
          exact (pk_lLE (by omega) (by omega)).mp c4
        · rw [if_neg c4] at h; exact absurd h (by decide)
    · rw [if_neg c2] at h; exact absurd h (by decide)
  · rw [if_neg c1] at h; exact absurd h (by decide)
def mvI (f g : Nat → Int32) (b : Nat) : Nat → Nat → Int32
  | 0 => f
  | k + 1 => upd (mvI f g b k) k (g (b + k))
theorem mvI_get {f g : Nat → Int32} {b j : Nat} : ∀ k, j < k → mvI f g b k j = g (b + j) := by
  intro k
  induction k with
  | zero => intro h; omega
  | succ k ih =>
    intro h
    rw [mvI]
    by_cases e : j = k
    · rw [e, pk_us]
    · rw [pk_un e]; exact ih (by omega)
def cpI (g mv : Nat → Int32) (b : Nat) : Nat → Nat → Int32
  | 0 => g
  | k + 1 => upd (cpI g mv b k) (b + k) (mv k)
theorem cpI_congr {g m1 m2 : Nat → Int32} {b : Nat} : ∀ k, (∀ j, j < k → m1 j = m2 j) → cpI g m1 b k = cpI g m2 b k := by
  intro k
  induction k with
  | zero => intro _; rfl
  | succ k ih => intro h; rw [cpI, cpI, ih (fun j hj => h j (by omega)), h k (by omega)]
def cpyP (s : Nat → Int32) (F : Nat → Nat → Int32) (fr i to j nn : Int32) : OR := if b2i (inI fr 0 3) = 0 then (-1, s, F) else if ¬ b2i (inI to 0 3) = 0 then (if F 59 fr.toNatClampNeg < 0 then (-11, s, F) else if 0 ≤ F 59 to.toNatClampNeg then (if F 59 fr.toNatClampNeg = F 59 to.toNatClampNeg then (if nn < 0 then (-13, s, F) else if refI (F 59) (F 60) fr.toNatClampNeg (F 59 fr.toNatClampNeg) i nn < 0 then (-13, s, F) else if 0 ≤ refI (F 59) (F 60) to.toNatClampNeg (F 59 to.toNatClampNeg) j nn then (nn, s, va_up F 61 (cpI (F 61) (fun k => F 61 (16 * fr.toNatClampNeg + i.toNatClampNeg + k)) (16 * to.toNatClampNeg + j.toNatClampNeg) nn.toNatClampNeg)) else (-13, s, F)) else (-12, s, F)) else (-11, s, F)) else (-1, s, F)

set_option maxHeartbeats 4000000 in
theorem lp_copy1 {l : Launch} {G : GW} {h : AH} {n : Nat} {s : Nat → Int32} {al : Int64} {f0 g0 : Nat → Int32} {t i u j m : Nat} {Q : Option Value → AH → Nat → Prop} (m33 : h 33 = some (MO s al)) (m61 : h 61 = some (IA 64 g0)) (ht : t < 4) (hi : i + m ≤ 16) (kk : EW l G yX4_copy cX4_copy 7 (some .int) 3 0 0 Q 0 0 (hov h [(62, IA 16 (mvI f0 g0 (16 * t + i) m))]) n 135 [some (.ref 33), some (.int (nI t)), some (.int (nI i)), some (.int (nI u)), some (.int (nI j)), some (.int (nI m)), some (.int (nI m))] []) : ∀ (f k : Nat), k + f = m → EW l G yX4_copy cX4_copy 7 (some .int) 3 0 0 Q 0 0 (hov h [(62, IA 16 (mvI f0 g0 (16 * t + i) k))]) n 101 [some (.ref 33), some (.int (nI t)), some (.int (nI i)), some (.int (nI u)), some (.int (nI j)), some (.int (nI m)), some (.int (nI k))] [] := by
  intro f
  induction f with
  | zero =>
    intro k  hk
    refine ew_iload (t := 103) dX4_copy_101 rfl rfl ?_
    refine ew_iload (t := 105) dX4_copy_103 rfl rfl ?_
    refine ew_icmp_ge (t := 135) (t2 := 108) dX4_copy_105 rfl rfl (fun c_105 => ?_) (fun c_105 => ?_)
    · rw [show k = m by omega]
      exact kk
    · exact absurd c_105 (by rw [show k = m by omega]; exact not_not_intro (Int32.le_refl _))
  | succ f ih =>
    intro k  hk
    refine ew_iload (t := 103) dX4_copy_101 rfl rfl ?_
    refine ew_iload (t := 105) dX4_copy_103 rfl rfl ?_
    refine ew_icmp_ge (t := 135) (t2 := 108) dX4_copy_105 rfl rfl (fun c_105 => ?_) (fun c_105 => ?_)
    · exact absurd c_105 (nI_ge (by omega) (by omega))
    · refine ew_aload_n (t := 109) dX4_copy_108 rfl rfl rfl ?_
      refine ew_get (t := 112) (j := 41) (v := .ref 62) fcX4 m33 (Nat.le_of_ble_eq_true rfl) q1062 rfl dX4_copy_109 rfl ?_
      refine ew_iload (t := 114) dX4_copy_112 rfl rfl ?_
      refine ew_aload_n (t := 115) dX4_copy_114 rfl rfl rfl ?_
      refine ew_get (t := 118) (j := 40) (v := .ref 61) fcX4 m33 (Nat.le_of_ble_eq_true rfl) q1061 rfl dX4_copy_115 rfl ?_
      refine ew_bipush (t := 120) (v := 16) dX4_copy_118 (by decide) rfl ?_
      refine ew_iload_n (t := 121) dX4_copy_120 rfl rfl rfl ?_
      refine ew_imul (t := 122) dX4_copy_121 rfl ?_
      refine ew_iload_n (t := 123) dX4_copy_122 rfl rfl rfl ?_
      refine ew_iadd (t := 124) dX4_copy_123 rfl ?_
      refine ew_iload (t := 126) dX4_copy_124 rfl rfl ?_
      refine ew_iadd (t := 127) dX4_copy_126 rfl ?_
      rw [show (16 : Int32) * nI t + nI i + nI k = nI (16 * t + i + k) from by rw [show (16 : Int32) = nI 16 from rfl, pk_mul, nI_add, nI_add]]
      refine ew_iald (t := 128) (j := (16 * t + i + k)) (N := 64) m61 (vp_in_nI (by omega) (by omega)) (nI_clamp (by omega)) dX4_copy_127 rfl ?_
      refine ew_iast (t := 129) (j := k) (N := 16) (h' := (hov h [(62, IA 16 (upd (mvI f0 g0 (16 * t + i) k) k (g0 (16 * t + i + k))))])) rfl (vp_in_nI (by omega) (by omega)) (nI_clamp (by omega)) dX4_copy_128 (hov_up rfl) rfl ?_
      refine ew_iinc (t := 132) (x := (nI k)) (v := ((nI k) + 1)) (L' := [some (.ref 33), some (.int (nI t)), some (.int (nI i)), some (.int (nI u)), some (.int (nI j)), some (.int (nI m)), some (.int ((nI k) + 1))]) dX4_copy_129 rfl rfl (Nat.le_of_ble_eq_true rfl) rfl rfl ?_
      refine ew_goto (t := 101) dX4_copy_132 rfl ?_
      rw [nI_1]
      exact ih (k + 1) (by omega)
set_option maxHeartbeats 4000000 in
theorem lp_copy2 {l : Launch} {G : GW} {h : AH} {n : Nat} {s : Nat → Int32} {al : Int64} {f0 g0 : Nat → Int32} {t i u j m : Nat} {Q : Option Value → AH → Nat → Prop} (m33 : h 33 = some (MO s al)) (m62 : h 62 = some (IA 16 f0)) (hu : u < 4) (hj : j + m ≤ 16) (hq : Q (some (.int (nI m))) (hov h [(61, IA 64 (cpI g0 f0 (16 * u + j) m))]) n) : ∀ (f k : Nat), k + f = m → EW l G yX4_copy cX4_copy 7 (some .int) 3 0 0 Q 0 0 (hov h [(61, IA 64 (cpI g0 f0 (16 * u + j) k))]) n 138 [some (.ref 33), some (.int (nI t)), some (.int (nI i)), some (.int (nI u)), some (.int (nI j)), some (.int (nI m)), some (.int (nI k))] [] := by
  intro f
  induction f with
  | zero =>
    intro k  hk
    refine ew_iload (t := 140) dX4_copy_138 rfl rfl ?_
    refine ew_iload (t := 142) dX4_copy_140 rfl rfl ?_
    refine ew_icmp_ge (t := 173) (t2 := 145) dX4_copy_142 rfl rfl (fun c_142 => ?_) (fun c_142 => ?_)
    · refine ew_iload (t := 175) dX4_copy_173 rfl rfl ?_
      exact ew_iret rfl dX4_copy_175 (Nat.le_refl _) (Nat.le_refl _) (by rw [show k = m by omega]; exact hq)
    · exact absurd c_142 (by rw [show k = m by omega]; exact not_not_intro (Int32.le_refl _))
  | succ f ih =>
    intro k  hk
    refine ew_iload (t := 140) dX4_copy_138 rfl rfl ?_
    refine ew_iload (t := 142) dX4_copy_140 rfl rfl ?_
    refine ew_icmp_ge (t := 173) (t2 := 145) dX4_copy_142 rfl rfl (fun c_142 => ?_) (fun c_142 => ?_)
    · exact absurd c_142 (nI_ge (by omega) (by omega))
    · refine ew_aload_n (t := 146) dX4_copy_145 rfl rfl rfl ?_
      refine ew_get (t := 149) (j := 40) (v := .ref 61) fcX4 m33 (Nat.le_of_ble_eq_true rfl) q1061 rfl dX4_copy_146 rfl ?_
      refine ew_bipush (t := 151) (v := 16) dX4_copy_149 (by decide) rfl ?_
      refine ew_iload_n (t := 152) dX4_copy_151 rfl rfl rfl ?_
      refine ew_imul (t := 153) dX4_copy_152 rfl ?_
      refine ew_iload (t := 155) dX4_copy_153 rfl rfl ?_
      refine ew_iadd (t := 156) dX4_copy_155 rfl ?_
      refine ew_iload (t := 158) dX4_copy_156 rfl rfl ?_
      refine ew_iadd (t := 159) dX4_copy_158 rfl ?_
      rw [show (16 : Int32) * nI u + nI j + nI k = nI (16 * u + j + k) from by rw [show (16 : Int32) = nI 16 from rfl, pk_mul, nI_add, nI_add]]
      refine ew_aload_n (t := 160) dX4_copy_159 rfl rfl rfl ?_
      refine ew_get (t := 163) (j := 41) (v := .ref 62) fcX4 m33 (Nat.le_of_ble_eq_true rfl) q1062 rfl dX4_copy_160 rfl ?_
      refine ew_iload (t := 165) dX4_copy_163 rfl rfl ?_
      refine ew_iald (t := 166) (j := k) (N := 16) m62 (vp_in_nI (by omega) (by omega)) (nI_clamp (by omega)) dX4_copy_165 rfl ?_
      refine ew_iast (t := 167) (j := (16 * u + j + k)) (N := 64) (h' := (hov h [(61, IA 64 (upd (cpI g0 f0 (16 * u + j) k) (16 * u + j + k) (f0 k)))])) rfl (vp_in_nI (by omega) (by omega)) (nI_clamp (by omega)) dX4_copy_166 (hov_up rfl) rfl ?_
      refine ew_iinc (t := 170) (x := (nI k)) (v := ((nI k) + 1)) (L' := [some (.ref 33), some (.int (nI t)), some (.int (nI i)), some (.int (nI u)), some (.int (nI j)), some (.int (nI m)), some (.int ((nI k) + 1))]) dX4_copy_167 rfl rfl (Nat.le_of_ble_eq_true rfl) rfl rfl ?_
      refine ew_goto (t := 138) dX4_copy_170 rfl ?_
      rw [nI_1]
      exact ih (k + 1) (by omega)
set_option maxHeartbeats 4000000 in
theorem mc_copy {l : Launch} {G : GW} {h : AH} {n : Nat} {s : Nat → Int32} {al : Int64} {F : Nat → Nat → Int32} {FL : Nat → Int64} (mc : MC s al F FL h) (hSZ : ∀ t, t < 4 → ∃ z, z ≤ 16 ∧ F 60 t = nI z) (fr i to j nn : Int32) : AM l G yX4_copy cX4_copy 7 (some .int) 3 0 0 [.ref 33, .int fr, .int i, .int to, .int j, .int nn] h n (OpR h n (cpyP s F fr i to j nn)) := by
  refine AM.of (L := [some (.ref 33), some (.int fr), some (.int i), some (.int to), some (.int j), some (.int nn), none]) (by decide) (Nat.le_of_ble_eq_true rfl) rfl ?_
  refine ew_iload_n (t := 1) dX4_copy_0 rfl rfl rfl ?_
  refine ew_callS (t := 4) (As := [_]) (am_isSheet  _) (lw_S q1361 q1362 q60 q1363) naX4_isSheet dX4_copy_1 rfl (Nat.le_of_ble_eq_true rfl) (Nat.le_of_ble_eq_true rfl) (Nat.le_refl _) (Nat.le_refl _) (Nat.le_of_ble_eq_true rfl) rfl (qi ?_)
  refine ew_if_eq (t := 14) (t2 := 7) dX4_copy_4 rfl rfl (fun c_4 => ?_) (fun c_4 => ?_)
  · refine ew_icm1 (t := 15) dX4_copy_14 rfl ?_
    exact ew_iret rfl dX4_copy_15 (Nat.le_refl _) (Nat.le_refl _) (by unfold cpyP; rw [if_pos c_4]; exact OpR.same mc)
  · refine ew_iload_n (t := 8) dX4_copy_7 rfl rfl rfl ?_
    refine ew_callS (t := 11) (As := [_]) (am_isSheet  _) (lw_S q1361 q1362 q60 q1363) naX4_isSheet dX4_copy_8 rfl (Nat.le_of_ble_eq_true rfl) (Nat.le_of_ble_eq_true rfl) (Nat.le_refl _) (Nat.le_refl _) (Nat.le_of_ble_eq_true rfl) rfl (qi ?_)
    refine ew_if_ne (t := 16) (t2 := 14) dX4_copy_11 rfl rfl (fun c_11 => ?_) (fun c_11 => ?_)
    · obtain ⟨t, ht0, ht, rfl⟩ := inI_nat (c := fr) (lo := 0) (hi := 3) (by decide) (by decide) (b2i_1.mp c_4)
      obtain ⟨u, hu0, hu, rfl⟩ := inI_nat (c := to) (lo := 0) (hi := 3) (by decide) (by decide) (b2i_1.mp c_11)
      refine ew_aload_n (t := 17) dX4_copy_16 rfl rfl rfl ?_
      refine ew_get (t := 20) (j := 38) (v := .ref 59) fcX4 mc.1 (Nat.le_of_ble_eq_true rfl) q1059 rfl dX4_copy_17 rfl ?_
      refine ew_iload_n (t := 21) dX4_copy_20 rfl rfl rfl ?_
      refine ew_iald (t := 22) (j := t) (N := 4) (mI mc 59 rfl) (vp_in_nI (by omega) (by omega)) (nI_clamp (by omega)) dX4_copy_21 rfl ?_
      refine ew_if_lt (t := 34) (t2 := 25) dX4_copy_22 rfl rfl (fun c_22 => ?_) (fun c_22 => ?_)
      · refine ew_bipush (t := 36) (v := (-11)) dX4_copy_34 (by decide) rfl ?_
        exact ew_iret rfl dX4_copy_36 (Nat.le_refl _) (Nat.le_refl _) (by unfold cpyP; rw [if_neg c_4, if_pos c_11, nI_clamp (n := t) (by omega), nI_clamp (n := u) (by omega), if_pos c_22]; exact OpR.same mc)
      · refine ew_aload_n (t := 26) dX4_copy_25 rfl rfl rfl ?_
        refine ew_get (t := 29) (j := 38) (v := .ref 59) fcX4 mc.1 (Nat.le_of_ble_eq_true rfl) q1059 rfl dX4_copy_26 rfl ?_
        refine ew_iload_n (t := 30) dX4_copy_29 rfl rfl rfl ?_
        refine ew_iald (t := 31) (j := u) (N := 4) (mI mc 59 rfl) (vp_in_nI (by omega) (by omega)) (nI_clamp (by omega)) dX4_copy_30 rfl ?_
        refine ew_if_ge (t := 37) (t2 := 34) dX4_copy_31 rfl rfl (fun c_31 => ?_) (fun c_31 => ?_)
        · refine ew_aload_n (t := 38) dX4_copy_37 rfl rfl rfl ?_
          refine ew_get (t := 41) (j := 38) (v := .ref 59) fcX4 mc.1 (Nat.le_of_ble_eq_true rfl) q1059 rfl dX4_copy_38 rfl ?_
          refine ew_iload_n (t := 42) dX4_copy_41 rfl rfl rfl ?_
          refine ew_iald (t := 43) (j := t) (N := 4) (mI mc 59 rfl) (vp_in_nI (by omega) (by omega)) (nI_clamp (by omega)) dX4_copy_42 rfl ?_
          refine ew_aload_n (t := 44) dX4_copy_43 rfl rfl rfl ?_
          refine ew_get (t := 47) (j := 38) (v := .ref 59) fcX4 mc.1 (Nat.le_of_ble_eq_true rfl) q1059 rfl dX4_copy_44 rfl ?_
          refine ew_iload_n (t := 48) dX4_copy_47 rfl rfl rfl ?_
          refine ew_iald (t := 49) (j := u) (N := 4) (mI mc 59 rfl) (vp_in_nI (by omega) (by omega)) (nI_clamp (by omega)) dX4_copy_48 rfl ?_
          refine ew_icmp_eq (t := 55) (t2 := 52) dX4_copy_49 rfl rfl (fun c_49 => ?_) (fun c_49 => ?_)
          · refine ew_iload (t := 57) dX4_copy_55 rfl rfl ?_
            refine ew_if_lt (t := 95) (t2 := 60) dX4_copy_57 rfl rfl (fun c_57 => ?_) (fun c_57 => ?_)
            · refine ew_bipush (t := 97) (v := (-13)) dX4_copy_95 (by decide) rfl ?_
              exact ew_iret rfl dX4_copy_97 (Nat.le_refl _) (Nat.le_refl _) (by unfold cpyP; rw [if_neg c_4, if_pos c_11, nI_clamp (n := t) (by omega), nI_clamp (n := u) (by omega), if_neg c_22, if_pos c_31, if_pos c_49, if_pos c_57]; exact OpR.same mc)
            · refine ew_aload_n (t := 61) dX4_copy_60 rfl rfl rfl ?_
              refine ew_iload_n (t := 62) dX4_copy_61 rfl rfl rfl ?_
              refine ew_aload_n (t := 63) dX4_copy_62 rfl rfl rfl ?_
              refine ew_get (t := 66) (j := 38) (v := .ref 59) fcX4 mc.1 (Nat.le_of_ble_eq_true rfl) q1059 rfl dX4_copy_63 rfl ?_
              refine ew_iload_n (t := 67) dX4_copy_66 rfl rfl rfl ?_
              refine ew_iald (t := 68) (j := t) (N := 4) (mI mc 59 rfl) (vp_in_nI (by omega) (by omega)) (nI_clamp (by omega)) dX4_copy_67 rfl ?_
              refine ew_iload_n (t := 69) dX4_copy_68 rfl rfl rfl ?_
              refine ew_iload (t := 71) dX4_copy_69 rfl rfl ?_
              refine ew_callV (t := 74) (As := [_, _, _, _]) (am_refuses (h := h) (t := t) mc (by omega) (F 59 t) i nn) (fcX4).1 mc.1 (lw_V q1368 q1370 qs48 q60 q1371) rfl naX4_refuses dX4_copy_71 rfl (Nat.le_of_ble_eq_true rfl) (Nat.le_of_ble_eq_true rfl) (Nat.le_refl _) (Nat.le_refl _) (Nat.le_of_ble_eq_true rfl) rfl (qi ?_)
              refine ew_if_lt (t := 95) (t2 := 77) dX4_copy_74 rfl rfl (fun c_74 => ?_) (fun c_74 => ?_)
              · refine ew_bipush (t := 97) (v := (-13)) dX4_copy_95 (by decide) rfl ?_
                exact ew_iret rfl dX4_copy_97 (Nat.le_refl _) (Nat.le_refl _) (by unfold cpyP; rw [if_neg c_4, if_pos c_11, nI_clamp (n := t) (by omega), nI_clamp (n := u) (by omega), if_neg c_22, if_pos c_31, if_pos c_49, if_neg c_57, if_pos c_74]; exact OpR.same mc)
              · refine ew_aload_n (t := 78) dX4_copy_77 rfl rfl rfl ?_
                refine ew_iload_n (t := 79) dX4_copy_78 rfl rfl rfl ?_
                refine ew_aload_n (t := 80) dX4_copy_79 rfl rfl rfl ?_
                refine ew_get (t := 83) (j := 38) (v := .ref 59) fcX4 mc.1 (Nat.le_of_ble_eq_true rfl) q1059 rfl dX4_copy_80 rfl ?_
                refine ew_iload_n (t := 84) dX4_copy_83 rfl rfl rfl ?_
                refine ew_iald (t := 85) (j := u) (N := 4) (mI mc 59 rfl) (vp_in_nI (by omega) (by omega)) (nI_clamp (by omega)) dX4_copy_84 rfl ?_
                refine ew_iload (t := 87) dX4_copy_85 rfl rfl ?_
                refine ew_iload (t := 89) dX4_copy_87 rfl rfl ?_
                refine ew_callV (t := 92) (As := [_, _, _, _]) (am_refuses (h := h) (t := u) mc (by omega) (F 59 u) j nn) (fcX4).1 mc.1 (lw_V q1368 q1370 qs48 q60 q1371) rfl naX4_refuses dX4_copy_89 rfl (Nat.le_of_ble_eq_true rfl) (Nat.le_of_ble_eq_true rfl) (Nat.le_refl _) (Nat.le_refl _) (Nat.le_of_ble_eq_true rfl) rfl (qi ?_)
                refine ew_if_ge (t := 98) (t2 := 95) dX4_copy_92 rfl rfl (fun c_92 => ?_) (fun c_92 => ?_)
                · refine ew_ic0 (t := 99) dX4_copy_98 rfl ?_
                  refine ew_istore (t := 101) (L' := [some (.ref 33), some (.int (nI t)), some (.int i), some (.int (nI u)), some (.int j), some (.int nn), some (.int 0)]) dX4_copy_99 (Nat.le_of_ble_eq_true rfl) rfl rfl ?_
                  obtain ⟨m, hm, rfl⟩ := nI_of c_57
                  obtain ⟨z, hz, eZ⟩ := hSZ t (by omega)
                  obtain ⟨z2, hz2, eZ2⟩ := hSZ u (by omega)
                  obtain ⟨k1, rfl, hk1⟩ := refI_ok2 hm hz eZ (Int32.not_lt.mp c_74)
                  obtain ⟨k2, rfl, hk2⟩ := refI_ok2 hm hz2 eZ2 c_92
                  refine EW.heap (h' := hov h [(62, IA 16 (F 62))]) (hov_same (h := h) (mI mc 62 rfl)).symm ?_
                  refine lp_copy1 (g0 := F 61) (f0 := F 62) (t := t) (i := k1) (u := u) (j := k2) (m := m) mc.1 (mI mc 61 rfl) (by omega) (by omega) ?_ m 0 (by omega)
                  refine ew_ic0 (t := 136) dX4_copy_135 rfl ?_
                  refine ew_istore (t := 138) (L' := [some (.ref 33), some (.int (nI t)), some (.int (nI k1)), some (.int (nI u)), some (.int (nI k2)), some (.int (nI m)), some (.int 0)]) dX4_copy_136 (Nat.le_of_ble_eq_true rfl) rfl rfl ?_
                  refine EW.heap (h' := hov (hov h [(62, IA 16 (mvI (F 62) (F 61) (16 * t + k1) m))]) [(61, IA 64 (F 61))]) (hov_same (h := (hov h [(62, IA 16 (mvI (F 62) (F 61) (16 * t + k1) m))])) (show (hov h [(62, IA 16 (mvI (F 62) (F 61) (16 * t + k1) m))]) 61 = some (IA 64 (F 61)) from mI mc 61 rfl)).symm ?_
                  refine lp_copy2 (h := (hov h [(62, IA 16 (mvI (F 62) (F 61) (16 * t + k1) m))])) (g0 := F 61) (f0 := mvI (F 62) (F 61) (16 * t + k1) m) (t := t) (i := k1) (u := u) (j := k2) (m := m) mc.1 rfl (by omega) (by omega) ?_ m 0 (by omega)
                  unfold cpyP
                  rw [if_neg c_4, if_pos c_11, nI_clamp (n := t) (by omega), nI_clamp (n := u) (by omega), if_neg c_22, if_pos c_31, if_pos c_49, if_neg c_57, if_neg c_74, if_pos c_92, nI_clamp (n := k1) (by omega), nI_clamp (n := k2) (by omega), nI_clamp (n := m) (by omega)]
                  refine ⟨rfl, rfl, fun k hk => (hov_fr 33 63 rfl k hk).trans (hov_fr 33 63 rfl k hk), s, al, _, FL, MC_I (c := 61) rfl (l := []) (MC_I (c := 62) rfl (l := []) mc), ?_, rfl, rfl, rfl, rfl⟩
                  rw [cpI_congr (m2 := fun k => F 61 (16 * t + k1 + k)) m (fun j hj => mvI_get m hj)]
                  exact keep_up (fun k hk => va_up_ne _ _ (by intro e; rw [e] at hk; cases hk))
                · refine ew_bipush (t := 97) (v := (-13)) dX4_copy_95 (by decide) rfl ?_
                  exact ew_iret rfl dX4_copy_97 (Nat.le_refl _) (Nat.le_refl _) (by unfold cpyP; rw [if_neg c_4, if_pos c_11, nI_clamp (n := t) (by omega), nI_clamp (n := u) (by omega), if_neg c_22, if_pos c_31, if_pos c_49, if_neg c_57, if_neg c_74, if_neg c_92]; exact OpR.same mc)
          · refine ew_bipush (t := 54) (v := (-12)) dX4_copy_52 (by decide) rfl ?_
            exact ew_iret rfl dX4_copy_54 (Nat.le_refl _) (Nat.le_refl _) (by unfold cpyP; rw [if_neg c_4, if_pos c_11, nI_clamp (n := t) (by omega), nI_clamp (n := u) (by omega), if_neg c_22, if_pos c_31, if_neg c_49]; exact OpR.same mc)
        · refine ew_bipush (t := 36) (v := (-11)) dX4_copy_34 (by decide) rfl ?_
          exact ew_iret rfl dX4_copy_36 (Nat.le_refl _) (Nat.le_refl _) (by unfold cpyP; rw [if_neg c_4, if_pos c_11, nI_clamp (n := t) (by omega), nI_clamp (n := u) (by omega), if_neg c_22, if_neg c_31]; exact OpR.same mc)
    · refine ew_icm1 (t := 15) dX4_copy_14 rfl ?_
      exact ew_iret rfl dX4_copy_15 (Nat.le_refl _) (Nat.le_refl _) (by unfold cpyP; rw [if_neg c_4, if_neg (not_not_intro c_11)]; exact OpR.same mc)
