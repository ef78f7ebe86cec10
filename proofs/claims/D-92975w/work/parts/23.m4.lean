/-! the reference: goes -/
set_option maxRecDepth 100000
theorem goneF_nn {a c t : Int32} (h : ¬ goneF a c t < 0) : ∃ b : Nat, b < 100 ∧ goneF a c t = nI b := by
  unfold goneF at h ⊢
  split at h
  · rename_i hh
    rw [if_pos hh]
    obtain ⟨h1, h2⟩ := hh
    rw [inI_iff] at h1 h2
    obtain ⟨x, hx, ex⟩ := nI_of2 (M := 9) (n := 9) (by decide) (Int32.not_lt.mpr h1.1) h1.2
    obtain ⟨y, hy, ey⟩ := nI_of2 (M := 9) (n := 9) (by decide) (Int32.not_lt.mpr h2.1) h2.2
    refine ⟨10 * x + y, by omega, ?_⟩
    rw [ex, ey, ← nI_add, ← pk_mul]
    rfl
  · exact absurd (by decide) h
theorem gp1 {X : Int32} (c : ¬ X ≤ 0) : (1 : Int32) = b2i (decide (0 < X)) := by
  rw [decide_eq_true (Int32.not_le.mp c)]
  rfl
theorem gp0 {X : Int32} (c : X ≤ 0) : (0 : Int32) = b2i (decide (0 < X)) := by
  rw [decide_eq_false (Int32.not_lt.mpr c)]
  rfl
def chkI (T SL co p t sl : Int32) : Option (Int32 × Int32 × Int32 × Int32) := if T < t then none else if SL < sl then none else if 1 ≤ p then some (co, p, t, sl) else none
/-- what is done at hour 0, at a later hour: course, pace, turns, slowed; none: it may not be -/
def attI0 (T SL c t sl : Int32) : Option (Int32 × Int32 × Int32 × Int32) := chkI T SL (c / 3) (c - c / 3 * 3 + 1) t sl
def attI1 (T SL c co p t sl : Int32) : Option (Int32 × Int32 × Int32 × Int32) :=
  if c ≤ 1 then (if c - c / 2 * 2 = 1 then chkI T SL co (p + (-1)) t (sl + 1) else chkI T SL co p t sl)
  else if c / 2 - 1 = co then none
  else (if c - c / 2 * 2 = 1 then chkI T SL (c / 2 - 1) (p + (-1)) (t + 1) (sl + 1) else chkI T SL (c / 2 - 1) p (t + 1) sl)
/-- the answer of goes, and the rows behind it -/
def goesQ (h : AH) (n : Nat) (A : Option (Int32 × Int32 × Int32 × Int32)) (v a b0 : Nat) (s F34 F35 F36 E CA PA TA SA FA RA : Nat → Int32) : Option Value → AH → Nat → Prop := fun r h' n' => n' = n ∧ match A with
  | none => r = some (.int 0) ∧ h' = h
  | some (co, p, t, sl) => if goneF (nI b0) co p < 0 ∨ (s 24 = 0 ∧ ¬ FA v + p * p ≤ F34 5) then r = some (.int 0) ∧ h' = h
    else ∃ b : Nat, b < 100 ∧ goneF (nI b0) co p = nI b ∧ r = some (.int (b2i (decide (0 < RA v * ringI (s 22) (nI (v + 1)) (s 23) (nI (awayF a b)) (nI (awayF a b0)) (F36 (v + 1)) (F35 (v + 1)))))) ∧
      h' = hov h [(46, IA 7 (upd CA v co)), (47, IA 7 (upd PA v p)), (45, IA 7 (upd E (v + 1) (nI b))), (48, IA 7 (upd TA (v + 1) t)), (49, IA 7 (upd SA (v + 1) sl)), (50, IA 7 (upd FA (v + 1) (FA v + p * p))), (51, IA 7 (upd RA (v + 1) (RA v * ringI (s 22) (nI (v + 1)) (s 23) (nI (awayF a b)) (nI (awayF a b0)) (F36 (v + 1)) (F35 (v + 1)))))]
theorem goesQ_0 {h : AH} {n : Nat} {A : Option (Int32 × Int32 × Int32 × Int32)} {v a b0 : Nat} {s F34 F35 F36 E CA PA TA SA FA RA : Nat → Int32} (e : A = none) : goesQ h n A v a b0 s F34 F35 F36 E CA PA TA SA FA RA (some (.int 0)) h n := by
  subst e
  exact ⟨rfl, rfl, rfl⟩
theorem goesQ_1 {h : AH} {n : Nat} {A : Option (Int32 × Int32 × Int32 × Int32)} {v a b0 : Nat} {s F34 F35 F36 E CA PA TA SA FA RA : Nat → Int32} (co p t sl : Int32) (e : A = some (co, p, t, sl)) (hc : goneF (nI b0) co p < 0 ∨ (s 24 = 0 ∧ ¬ FA v + p * p ≤ F34 5)) : goesQ h n A v a b0 s F34 F35 F36 E CA PA TA SA FA RA (some (.int 0)) h n := by
  subst e
  refine ⟨rfl, ?_⟩
  show if _ then _ else _
  rw [if_pos hc]
  exact ⟨rfl, rfl⟩
theorem goesQ_2 {h : AH} {n : Nat} {A : Option (Int32 × Int32 × Int32 × Int32)} {v a b0 : Nat} {s F34 F35 F36 E CA PA TA SA FA RA : Nat → Int32} (co p t sl : Int32) (e : A = some (co, p, t, sl)) (hc : ¬ (goneF (nI b0) co p < 0 ∨ (s 24 = 0 ∧ ¬ FA v + p * p ≤ F34 5))) {b : Nat} (hb : b < 100) (eb : goneF (nI b0) co p = nI b) {x : Int32} (hx : x = b2i (decide (0 < RA v * ringI (s 22) (nI (v + 1)) (s 23) (nI (awayF a b)) (nI (awayF a b0)) (F36 (v + 1)) (F35 (v + 1))))) : goesQ h n A v a b0 s F34 F35 F36 E CA PA TA SA FA RA (some (.int x)) (hov h [(46, IA 7 (upd CA v co)), (47, IA 7 (upd PA v p)), (45, IA 7 (upd E (v + 1) (nI b))), (48, IA 7 (upd TA (v + 1) t)), (49, IA 7 (upd SA (v + 1) sl)), (50, IA 7 (upd FA (v + 1) (FA v + p * p))), (51, IA 7 (upd RA (v + 1) (RA v * ringI (s 22) (nI (v + 1)) (s 23) (nI (awayF a b)) (nI (awayF a b0)) (F36 (v + 1)) (F35 (v + 1)))))]) n := by
  subst e
  refine ⟨rfl, ?_⟩
  show if _ then _ else _
  rw [if_neg hc]
  exact ⟨b, hb, eb, by rw [hx], rfl⟩
set_option maxHeartbeats 4000000 in
theorem am_goes0 {l : Launch} {G : GW} {h : AH} {n : Nat} {s : Nat → Int32} {al : Int64} {F34 F35 F36 CD E CA PA TA SA FA RA : Nat → Int32} {a b0 : Nat} (m33 : h 33 = some (MO s al)) (m34 : h 34 = some (IA 8 F34)) (m35 : h 35 = some (IA 7 F35)) (m36 : h 36 = some (IA 7 F36)) (m44 : h 44 = some (IA 7 CD)) (m45 : h 45 = some (IA 7 E)) (m46 : h 46 = some (IA 7 CA)) (m47 : h 47 = some (IA 7 PA)) (m48 : h 48 = some (IA 7 TA)) (m49 : h 49 = some (IA 7 SA)) (m50 : h 50 = some (IA 7 FA)) (m51 : h 51 = some (IA 7 RA)) (hF0 : F34 0 = nI a) (ha : a < 100) (hE0 : E 0 = nI b0) (hb0 : b0 < 100) (hv : s 21 = 0) : AM l G yX4_goes cX4_goes 9 (some .boolean) 2 0 0 [.ref 33] h n (goesQ h n (attI0 (F34 3) (F34 4) (CD 0) (TA 0) (SA 0)) 0 a b0 s F34 F35 F36 E CA PA TA SA FA RA) := by
  refine AM.of (L := [some (.ref 33), none, none, none, none, none, none, none, none]) (by decide) (Nat.le_of_ble_eq_true rfl) rfl ?_
  refine ew_aload_n (t := 1) dX4_goes_0 rfl rfl rfl ?_
  refine ew_get (t := 4) (j := 21) (v := .int (s 21)) fcX4 m33 (Nat.le_of_ble_eq_true rfl) q1042 rfl dX4_goes_1 rfl ?_
  rw [hv]
  refine ew_istore_n (t := 5) (L' := [some (.ref 33), some (.int 0), none, none, none, none, none, none, none]) dX4_goes_4 rfl (Nat.le_of_ble_eq_true rfl) rfl rfl ?_
  refine ew_aload_n (t := 6) dX4_goes_5 rfl rfl rfl ?_
  refine ew_get (t := 9) (j := 13) (v := .ref 44) fcX4 m33 (Nat.le_of_ble_eq_true rfl) q1034 rfl dX4_goes_6 rfl ?_
  refine ew_iload_n (t := 10) dX4_goes_9 rfl rfl rfl ?_
  refine ew_iald (t := 11) (j := 0) (N := 7) m44 (vpI (by decide)) (by decide) dX4_goes_10 rfl ?_
  refine ew_istore_n (t := 12) (L' := [some (.ref 33), some (.int 0), some (.int (CD 0)), none, none, none, none, none, none]) dX4_goes_11 rfl (Nat.le_of_ble_eq_true rfl) rfl rfl ?_
  refine ew_aload_n (t := 13) dX4_goes_12 rfl rfl rfl ?_
  refine ew_get (t := 16) (j := 17) (v := .ref 48) fcX4 m33 (Nat.le_of_ble_eq_true rfl) q1038 rfl dX4_goes_13 rfl ?_
  refine ew_iload_n (t := 17) dX4_goes_16 rfl rfl rfl ?_
  refine ew_iald (t := 18) (j := 0) (N := 7) m48 (vpI (by decide)) (by decide) dX4_goes_17 rfl ?_
  refine ew_istore_n (t := 19) (L' := [some (.ref 33), some (.int 0), some (.int (CD 0)), some (.int (TA 0)), none, none, none, none, none]) dX4_goes_18 rfl (Nat.le_of_ble_eq_true rfl) rfl rfl ?_
  refine ew_aload_n (t := 20) dX4_goes_19 rfl rfl rfl ?_
  refine ew_get (t := 23) (j := 18) (v := .ref 49) fcX4 m33 (Nat.le_of_ble_eq_true rfl) q1039 rfl dX4_goes_20 rfl ?_
  refine ew_iload_n (t := 24) dX4_goes_23 rfl rfl rfl ?_
  refine ew_iald (t := 25) (j := 0) (N := 7) m49 (vpI (by decide)) (by decide) dX4_goes_24 rfl ?_
  refine ew_istore (t := 27) (L' := [some (.ref 33), some (.int 0), some (.int (CD 0)), some (.int (TA 0)), some (.int (SA 0)), none, none, none, none]) dX4_goes_25 (Nat.le_of_ble_eq_true rfl) rfl rfl ?_
  refine ew_iload_n (t := 28) dX4_goes_27 rfl rfl rfl ?_
  refine ew_if_ne (t := 37) (t2 := 31) dX4_goes_28 rfl rfl (fun c_28 => ?_) (fun c_28 => ?_)
  · exact absurd c_28 (by decide)
  · refine ew_iload_n (t := 32) dX4_goes_31 rfl rfl rfl ?_
    refine ew_ic3 (t := 33) dX4_goes_32 rfl ?_
    refine ew_idiv (t := 34) dX4_goes_33 (by decide) rfl ?_
    refine ew_goto (t := 45) dX4_goes_34 rfl ?_
    refine ew_istore (t := 47) (L' := [some (.ref 33), some (.int 0), some (.int (CD 0)), some (.int (TA 0)), some (.int (SA 0)), some (.int ((CD 0) / 3)), none, none, none]) dX4_goes_45 (Nat.le_of_ble_eq_true rfl) rfl rfl ?_
    refine ew_iload_n (t := 48) dX4_goes_47 rfl rfl rfl ?_
    refine ew_if_ne (t := 59) (t2 := 51) dX4_goes_48 rfl rfl (fun c_48 => ?_) (fun c_48 => ?_)
    · exact absurd c_48 (by decide)
    · refine ew_iload_n (t := 52) dX4_goes_51 rfl rfl rfl ?_
      refine ew_ic3 (t := 53) dX4_goes_52 rfl ?_
      refine ew_irem (t := 54) dX4_goes_53 (by decide) rfl ?_
      refine ew_ic1 (t := 55) dX4_goes_54 rfl ?_
      refine ew_iadd (t := 56) dX4_goes_55 rfl ?_
      refine ew_goto (t := 67) dX4_goes_56 rfl ?_
      refine ew_istore (t := 69) (L' := [some (.ref 33), some (.int 0), some (.int (CD 0)), some (.int (TA 0)), some (.int (SA 0)), some (.int ((CD 0) / 3)), some (.int (((CD 0) - (CD 0) / 3 * 3) + 1)), none, none]) dX4_goes_67 (Nat.le_of_ble_eq_true rfl) rfl rfl ?_
      refine ew_iload_n (t := 70) dX4_goes_69 rfl rfl rfl ?_
      refine ew_if_le (t := 125) (t2 := 73) dX4_goes_70 rfl rfl (fun c_70 => ?_) (fun c_70 => ?_)
      · refine ew_iload_n (t := 126) dX4_goes_125 rfl rfl rfl ?_
        refine ew_aload_n (t := 127) dX4_goes_126 rfl rfl rfl ?_
        refine ew_get (t := 130) (j := 0) (v := .ref 34) fcX4 m33 (Nat.le_of_ble_eq_true rfl) q1021 rfl dX4_goes_127 rfl ?_
        refine ew_ic3 (t := 131) dX4_goes_130 rfl ?_
        refine ew_iald (t := 132) (j := 3) (N := 8) m34 (vpI (by decide)) (by decide) dX4_goes_131 rfl ?_
        refine ew_icmp_gt (t := 152) (t2 := 135) dX4_goes_132 rfl rfl (fun c_132 => ?_) (fun c_132 => ?_)
        · refine ew_ic0 (t := 153) dX4_goes_152 rfl ?_
          exact ew_zret rfl (by decide) dX4_goes_153 (Nat.le_refl _) (Nat.le_refl _) (goesQ_0 (by simp only [attI0, chkI, if_pos c_132]))
        · refine ew_iload (t := 137) dX4_goes_135 rfl rfl ?_
          refine ew_aload_n (t := 138) dX4_goes_137 rfl rfl rfl ?_
          refine ew_get (t := 141) (j := 0) (v := .ref 34) fcX4 m33 (Nat.le_of_ble_eq_true rfl) q1021 rfl dX4_goes_138 rfl ?_
          refine ew_ic4 (t := 142) dX4_goes_141 rfl ?_
          refine ew_iald (t := 143) (j := 4) (N := 8) m34 (vpI (by decide)) (by decide) dX4_goes_142 rfl ?_
          refine ew_icmp_gt (t := 152) (t2 := 146) dX4_goes_143 rfl rfl (fun c_143 => ?_) (fun c_143 => ?_)
          · refine ew_ic0 (t := 153) dX4_goes_152 rfl ?_
            exact ew_zret rfl (by decide) dX4_goes_153 (Nat.le_refl _) (Nat.le_refl _) (goesQ_0 (by simp only [attI0, chkI, if_neg c_132, if_pos c_143]))
          · refine ew_iload (t := 148) dX4_goes_146 rfl rfl ?_
            refine ew_ic1 (t := 149) dX4_goes_148 rfl ?_
            refine ew_icmp_ge (t := 154) (t2 := 152) dX4_goes_149 rfl rfl (fun c_149 => ?_) (fun c_149 => ?_)
            · refine ew_aload_n (t := 155) dX4_goes_154 rfl rfl rfl ?_
              refine ew_get (t := 158) (j := 19) (v := .ref 50) fcX4 m33 (Nat.le_of_ble_eq_true rfl) q1040 rfl dX4_goes_155 rfl ?_
              refine ew_iload_n (t := 159) dX4_goes_158 rfl rfl rfl ?_
              refine ew_iald (t := 160) (j := 0) (N := 7) m50 (vpI (by decide)) (by decide) dX4_goes_159 rfl ?_
              refine ew_iload (t := 162) dX4_goes_160 rfl rfl ?_
              refine ew_iload (t := 164) dX4_goes_162 rfl rfl ?_
              refine ew_imul (t := 165) dX4_goes_164 rfl ?_
              refine ew_iadd (t := 166) dX4_goes_165 rfl ?_
              refine ew_istore (t := 168) (L' := [some (.ref 33), some (.int 0), some (.int (CD 0)), some (.int (TA 0)), some (.int (SA 0)), some (.int ((CD 0) / 3)), some (.int (((CD 0) - (CD 0) / 3 * 3) + 1)), some (.int ((FA 0) + ((((CD 0) - (CD 0) / 3 * 3) + 1) * (((CD 0) - (CD 0) / 3 * 3) + 1)))), none]) dX4_goes_166 (Nat.le_of_ble_eq_true rfl) rfl rfl ?_
              refine ew_aload_n (t := 169) dX4_goes_168 rfl rfl rfl ?_
              refine ew_get (t := 172) (j := 14) (v := .ref 45) fcX4 m33 (Nat.le_of_ble_eq_true rfl) q1035 rfl dX4_goes_169 rfl ?_
              refine ew_iload_n (t := 173) dX4_goes_172 rfl rfl rfl ?_
              refine ew_iald (t := 174) (j := 0) (N := 7) m45 (vpI (by decide)) (by decide) dX4_goes_173 rfl ?_
              rw [hE0]
              refine ew_iload (t := 176) dX4_goes_174 rfl rfl ?_
              refine ew_iload (t := 178) dX4_goes_176 rfl rfl ?_
              refine ew_callS (t := 181) (As := [_, _, _]) (am_gone  _ _ _) (lw_S q1227 q1228 q60 q1229) naX4_gone dX4_goes_178 rfl (Nat.le_of_ble_eq_true rfl) (Nat.le_of_ble_eq_true rfl) (Nat.le_refl _) (Nat.le_refl _) (Nat.le_of_ble_eq_true rfl) rfl (qi ?_)
              refine ew_istore (t := 183) (L' := [some (.ref 33), some (.int 0), some (.int (CD 0)), some (.int (TA 0)), some (.int (SA 0)), some (.int ((CD 0) / 3)), some (.int (((CD 0) - (CD 0) / 3 * 3) + 1)), some (.int ((FA 0) + ((((CD 0) - (CD 0) / 3 * 3) + 1) * (((CD 0) - (CD 0) / 3 * 3) + 1)))), some (.int (goneF (nI b0) ((CD 0) / 3) (((CD 0) - (CD 0) / 3 * 3) + 1)))]) dX4_goes_181 (Nat.le_of_ble_eq_true rfl) rfl rfl ?_
              refine ew_iload (t := 185) dX4_goes_183 rfl rfl ?_
              refine ew_if_lt (t := 206) (t2 := 188) dX4_goes_185 rfl rfl (fun c_185 => ?_) (fun c_185 => ?_)
              · refine ew_ic0 (t := 207) dX4_goes_206 rfl ?_
                exact ew_zret rfl (by decide) dX4_goes_207 (Nat.le_refl _) (Nat.le_refl _) (goesQ_1 ((CD 0) / 3) (((CD 0) - (CD 0) / 3 * 3) + 1) (TA 0) (SA 0) (by simp only [attI0, chkI, if_neg c_132, if_neg c_143, if_pos c_149]) (Or.inl c_185))
              · refine ew_aload_n (t := 189) dX4_goes_188 rfl rfl rfl ?_
                refine ew_get (t := 192) (j := 24) (v := .int (s 24)) fcX4 m33 (Nat.le_of_ble_eq_true rfl) q1045 rfl dX4_goes_189 rfl ?_
                refine ew_if_ne (t := 208) (t2 := 195) dX4_goes_192 rfl rfl (fun c_192 => ?_) (fun c_192 => ?_)
                · obtain ⟨b1, hb1, eb1⟩ := goneF_nn c_185
                  rw [eb1]
                  refine ew_aload_n (t := 209) dX4_goes_208 rfl rfl rfl ?_
                  refine ew_get (t := 212) (j := 15) (v := .ref 46) fcX4 m33 (Nat.le_of_ble_eq_true rfl) q1036 rfl dX4_goes_209 rfl ?_
                  refine ew_iload_n (t := 213) dX4_goes_212 rfl rfl rfl ?_
                  refine ew_iload (t := 215) dX4_goes_213 rfl rfl ?_
                  refine ew_iast (t := 216) (j := 0) (N := 7) (h' := (hov h [(46, IA 7 (upd CA 0 ((CD 0) / 3)))])) m46 (vpI (by decide)) (by decide) dX4_goes_215 (hov_up0) rfl ?_
                  refine ew_aload_n (t := 217) dX4_goes_216 rfl rfl rfl ?_
                  refine ew_get (t := 220) (j := 16) (v := .ref 47) fcX4 m33 (Nat.le_of_ble_eq_true rfl) q1037 rfl dX4_goes_217 rfl ?_
                  refine ew_iload_n (t := 221) dX4_goes_220 rfl rfl rfl ?_
                  refine ew_iload (t := 223) dX4_goes_221 rfl rfl ?_
                  refine ew_iast (t := 224) (j := 0) (N := 7) (h' := (hov h [(46, IA 7 (upd CA 0 ((CD 0) / 3))), (47, IA 7 (upd PA 0 (((CD 0) - (CD 0) / 3 * 3) + 1)))])) m47 (vpI (by decide)) (by decide) dX4_goes_223 (hov_up rfl) rfl ?_
                  refine ew_aload_n (t := 225) dX4_goes_224 rfl rfl rfl ?_
                  refine ew_get (t := 228) (j := 14) (v := .ref 45) fcX4 m33 (Nat.le_of_ble_eq_true rfl) q1035 rfl dX4_goes_225 rfl ?_
                  refine ew_iload_n (t := 229) dX4_goes_228 rfl rfl rfl ?_
                  refine ew_ic1 (t := 230) dX4_goes_229 rfl ?_
                  refine ew_iadd (t := 231) dX4_goes_230 rfl ?_
                  refine ew_iload (t := 233) dX4_goes_231 rfl rfl ?_
                  refine ew_iast (t := 234) (j := 1) (N := 7) (h' := (hov h [(46, IA 7 (upd CA 0 ((CD 0) / 3))), (47, IA 7 (upd PA 0 (((CD 0) - (CD 0) / 3 * 3) + 1))), (45, IA 7 (upd E 1 (nI b1)))])) m45 (vpI (by decide)) (by decide) dX4_goes_233 (hov_up rfl) rfl ?_
                  refine ew_aload_n (t := 235) dX4_goes_234 rfl rfl rfl ?_
                  refine ew_get (t := 238) (j := 17) (v := .ref 48) fcX4 m33 (Nat.le_of_ble_eq_true rfl) q1038 rfl dX4_goes_235 rfl ?_
                  refine ew_iload_n (t := 239) dX4_goes_238 rfl rfl rfl ?_
                  refine ew_ic1 (t := 240) dX4_goes_239 rfl ?_
                  refine ew_iadd (t := 241) dX4_goes_240 rfl ?_
                  refine ew_iload_n (t := 242) dX4_goes_241 rfl rfl rfl ?_
                  refine ew_iast (t := 243) (j := 1) (N := 7) (h' := (hov h [(46, IA 7 (upd CA 0 ((CD 0) / 3))), (47, IA 7 (upd PA 0 (((CD 0) - (CD 0) / 3 * 3) + 1))), (45, IA 7 (upd E 1 (nI b1))), (48, IA 7 (upd TA 1 (TA 0)))])) m48 (vpI (by decide)) (by decide) dX4_goes_242 (hov_up rfl) rfl ?_
                  refine ew_aload_n (t := 244) dX4_goes_243 rfl rfl rfl ?_
                  refine ew_get (t := 247) (j := 18) (v := .ref 49) fcX4 m33 (Nat.le_of_ble_eq_true rfl) q1039 rfl dX4_goes_244 rfl ?_
                  refine ew_iload_n (t := 248) dX4_goes_247 rfl rfl rfl ?_
                  refine ew_ic1 (t := 249) dX4_goes_248 rfl ?_
                  refine ew_iadd (t := 250) dX4_goes_249 rfl ?_
                  refine ew_iload (t := 252) dX4_goes_250 rfl rfl ?_
                  refine ew_iast (t := 253) (j := 1) (N := 7) (h' := (hov h [(46, IA 7 (upd CA 0 ((CD 0) / 3))), (47, IA 7 (upd PA 0 (((CD 0) - (CD 0) / 3 * 3) + 1))), (45, IA 7 (upd E 1 (nI b1))), (48, IA 7 (upd TA 1 (TA 0))), (49, IA 7 (upd SA 1 (SA 0)))])) m49 (vpI (by decide)) (by decide) dX4_goes_252 (hov_up rfl) rfl ?_
                  refine ew_aload_n (t := 254) dX4_goes_253 rfl rfl rfl ?_
                  refine ew_get (t := 257) (j := 19) (v := .ref 50) fcX4 m33 (Nat.le_of_ble_eq_true rfl) q1040 rfl dX4_goes_254 rfl ?_
                  refine ew_iload_n (t := 258) dX4_goes_257 rfl rfl rfl ?_
                  refine ew_ic1 (t := 259) dX4_goes_258 rfl ?_
                  refine ew_iadd (t := 260) dX4_goes_259 rfl ?_
                  refine ew_iload (t := 262) dX4_goes_260 rfl rfl ?_
                  refine ew_iast (t := 263) (j := 1) (N := 7) (h' := (hov h [(46, IA 7 (upd CA 0 ((CD 0) / 3))), (47, IA 7 (upd PA 0 (((CD 0) - (CD 0) / 3 * 3) + 1))), (45, IA 7 (upd E 1 (nI b1))), (48, IA 7 (upd TA 1 (TA 0))), (49, IA 7 (upd SA 1 (SA 0))), (50, IA 7 (upd FA 1 ((FA 0) + ((((CD 0) - (CD 0) / 3 * 3) + 1) * (((CD 0) - (CD 0) / 3 * 3) + 1)))))])) m50 (vpI (by decide)) (by decide) dX4_goes_262 (hov_up rfl) rfl ?_
                  refine ew_aload_n (t := 264) dX4_goes_263 rfl rfl rfl ?_
                  refine ew_get (t := 267) (j := 20) (v := .ref 51) fcX4 m33 (Nat.le_of_ble_eq_true rfl) q1041 rfl dX4_goes_264 rfl ?_
                  refine ew_iload_n (t := 268) dX4_goes_267 rfl rfl rfl ?_
                  refine ew_ic1 (t := 269) dX4_goes_268 rfl ?_
                  refine ew_iadd (t := 270) dX4_goes_269 rfl ?_
                  refine ew_aload_n (t := 271) dX4_goes_270 rfl rfl rfl ?_
                  refine ew_get (t := 274) (j := 20) (v := .ref 51) fcX4 m33 (Nat.le_of_ble_eq_true rfl) q1041 rfl dX4_goes_271 rfl ?_
                  refine ew_iload_n (t := 275) dX4_goes_274 rfl rfl rfl ?_
                  refine ew_iald (t := 276) (j := 0) (N := 7) m51 (vpI (by decide)) (by decide) dX4_goes_275 rfl ?_
                  refine ew_aload_n (t := 277) dX4_goes_276 rfl rfl rfl ?_
                  refine ew_iload_n (t := 278) dX4_goes_277 rfl rfl rfl ?_
                  refine ew_ic1 (t := 279) dX4_goes_278 rfl ?_
                  refine ew_iadd (t := 280) dX4_goes_279 rfl ?_
                  rw [show (0 + 1 : Int32) = nI (0 + 1) from rfl]
                  refine ew_callV (t := 283) (As := [_]) (am_ringed (j := 0) (b0 := b0) (b1 := b1) m33 m34 m35 m36 rfl (by omega) hF0 ha (by rw [pk_un (by omega)]; exact hE0) hb0 pk_us hb1) (fcX4).1 m33 (lw_V q1236 q1238 qs37 q60 q1239) rfl naX4_ringed dX4_goes_280 rfl (Nat.le_of_ble_eq_true rfl) (Nat.le_of_ble_eq_true rfl) (Nat.le_refl _) (Nat.le_refl _) (Nat.le_of_ble_eq_true rfl) rfl (qi ?_)
                  refine ew_imul (t := 284) dX4_goes_283 rfl ?_
                  refine ew_iast (t := 285) (j := 1) (N := 7) (h' := (hov h [(46, IA 7 (upd CA 0 ((CD 0) / 3))), (47, IA 7 (upd PA 0 (((CD 0) - (CD 0) / 3 * 3) + 1))), (45, IA 7 (upd E 1 (nI b1))), (48, IA 7 (upd TA 1 (TA 0))), (49, IA 7 (upd SA 1 (SA 0))), (50, IA 7 (upd FA 1 ((FA 0) + ((((CD 0) - (CD 0) / 3 * 3) + 1) * (((CD 0) - (CD 0) / 3 * 3) + 1))))), (51, IA 7 (upd RA 1 ((RA 0) * (ringI (s 22) (nI (0 + 1)) (s 23) (nI (awayF a b1)) (nI (awayF a b0)) (F36 (0 + 1)) (F35 (0 + 1))))))])) m51 (vpI (by decide)) (by decide) dX4_goes_284 (hov_up rfl) rfl ?_
                  refine ew_aload_n (t := 286) dX4_goes_285 rfl rfl rfl ?_
                  refine ew_get (t := 289) (j := 20) (v := .ref 51) fcX4 m33 (Nat.le_of_ble_eq_true rfl) q1041 rfl dX4_goes_286 rfl ?_
                  refine ew_iload_n (t := 290) dX4_goes_289 rfl rfl rfl ?_
                  refine ew_ic1 (t := 291) dX4_goes_290 rfl ?_
                  refine ew_iadd (t := 292) dX4_goes_291 rfl ?_
                  refine ew_iald (t := 293) (j := 1) (N := 7) rfl (vpI (by decide)) (by decide) dX4_goes_292 rfl ?_
                  rw [pk_us]
                  refine ew_if_le (t := 300) (t2 := 296) dX4_goes_293 rfl rfl (fun c_293 => ?_) (fun c_293 => ?_)
                  · refine ew_ic0 (t := 301) dX4_goes_300 rfl ?_
                    exact ew_zret rfl (by decide) dX4_goes_301 (Nat.le_refl _) (Nat.le_refl _) (goesQ_2 ((CD 0) / 3) (((CD 0) - (CD 0) / 3 * 3) + 1) (TA 0) (SA 0) (by simp only [attI0, chkI, if_neg c_132, if_neg c_143, if_pos c_149]) (fun q => q.elim c_185 (fun q => c_192 q.1)) hb1 eb1 (gp0 c_293))
                  · refine ew_ic1 (t := 297) dX4_goes_296 rfl ?_
                    refine ew_goto (t := 301) dX4_goes_297 rfl ?_
                    exact ew_zret rfl (by decide) dX4_goes_301 (Nat.le_refl _) (Nat.le_refl _) (goesQ_2 ((CD 0) / 3) (((CD 0) - (CD 0) / 3 * 3) + 1) (TA 0) (SA 0) (by simp only [attI0, chkI, if_neg c_132, if_neg c_143, if_pos c_149]) (fun q => q.elim c_185 (fun q => c_192 q.1)) hb1 eb1 (gp1 c_293))
                · refine ew_iload (t := 197) dX4_goes_195 rfl rfl ?_
                  refine ew_aload_n (t := 198) dX4_goes_197 rfl rfl rfl ?_
                  refine ew_get (t := 201) (j := 0) (v := .ref 34) fcX4 m33 (Nat.le_of_ble_eq_true rfl) q1021 rfl dX4_goes_198 rfl ?_
                  refine ew_ic5 (t := 202) dX4_goes_201 rfl ?_
                  refine ew_iald (t := 203) (j := 5) (N := 8) m34 (vpI (by decide)) (by decide) dX4_goes_202 rfl ?_
                  refine ew_icmp_le (t := 208) (t2 := 206) dX4_goes_203 rfl rfl (fun c_203 => ?_) (fun c_203 => ?_)
                  · obtain ⟨b1, hb1, eb1⟩ := goneF_nn c_185
                    rw [eb1]
                    refine ew_aload_n (t := 209) dX4_goes_208 rfl rfl rfl ?_
                    refine ew_get (t := 212) (j := 15) (v := .ref 46) fcX4 m33 (Nat.le_of_ble_eq_true rfl) q1036 rfl dX4_goes_209 rfl ?_
                    refine ew_iload_n (t := 213) dX4_goes_212 rfl rfl rfl ?_
                    refine ew_iload (t := 215) dX4_goes_213 rfl rfl ?_
                    refine ew_iast (t := 216) (j := 0) (N := 7) (h' := (hov h [(46, IA 7 (upd CA 0 ((CD 0) / 3)))])) m46 (vpI (by decide)) (by decide) dX4_goes_215 (hov_up0) rfl ?_
                    refine ew_aload_n (t := 217) dX4_goes_216 rfl rfl rfl ?_
                    refine ew_get (t := 220) (j := 16) (v := .ref 47) fcX4 m33 (Nat.le_of_ble_eq_true rfl) q1037 rfl dX4_goes_217 rfl ?_
                    refine ew_iload_n (t := 221) dX4_goes_220 rfl rfl rfl ?_
                    refine ew_iload (t := 223) dX4_goes_221 rfl rfl ?_
                    refine ew_iast (t := 224) (j := 0) (N := 7) (h' := (hov h [(46, IA 7 (upd CA 0 ((CD 0) / 3))), (47, IA 7 (upd PA 0 (((CD 0) - (CD 0) / 3 * 3) + 1)))])) m47 (vpI (by decide)) (by decide) dX4_goes_223 (hov_up rfl) rfl ?_
                    refine ew_aload_n (t := 225) dX4_goes_224 rfl rfl rfl ?_
                    refine ew_get (t := 228) (j := 14) (v := .ref 45) fcX4 m33 (Nat.le_of_ble_eq_true rfl) q1035 rfl dX4_goes_225 rfl ?_
                    refine ew_iload_n (t := 229) dX4_goes_228 rfl rfl rfl ?_
                    refine ew_ic1 (t := 230) dX4_goes_229 rfl ?_
                    refine ew_iadd (t := 231) dX4_goes_230 rfl ?_
                    refine ew_iload (t := 233) dX4_goes_231 rfl rfl ?_
                    refine ew_iast (t := 234) (j := 1) (N := 7) (h' := (hov h [(46, IA 7 (upd CA 0 ((CD 0) / 3))), (47, IA 7 (upd PA 0 (((CD 0) - (CD 0) / 3 * 3) + 1))), (45, IA 7 (upd E 1 (nI b1)))])) m45 (vpI (by decide)) (by decide) dX4_goes_233 (hov_up rfl) rfl ?_
                    refine ew_aload_n (t := 235) dX4_goes_234 rfl rfl rfl ?_
                    refine ew_get (t := 238) (j := 17) (v := .ref 48) fcX4 m33 (Nat.le_of_ble_eq_true rfl) q1038 rfl dX4_goes_235 rfl ?_
                    refine ew_iload_n (t := 239) dX4_goes_238 rfl rfl rfl ?_
                    refine ew_ic1 (t := 240) dX4_goes_239 rfl ?_
                    refine ew_iadd (t := 241) dX4_goes_240 rfl ?_
                    refine ew_iload_n (t := 242) dX4_goes_241 rfl rfl rfl ?_
                    refine ew_iast (t := 243) (j := 1) (N := 7) (h' := (hov h [(46, IA 7 (upd CA 0 ((CD 0) / 3))), (47, IA 7 (upd PA 0 (((CD 0) - (CD 0) / 3 * 3) + 1))), (45, IA 7 (upd E 1 (nI b1))), (48, IA 7 (upd TA 1 (TA 0)))])) m48 (vpI (by decide)) (by decide) dX4_goes_242 (hov_up rfl) rfl ?_
                    refine ew_aload_n (t := 244) dX4_goes_243 rfl rfl rfl ?_
                    refine ew_get (t := 247) (j := 18) (v := .ref 49) fcX4 m33 (Nat.le_of_ble_eq_true rfl) q1039 rfl dX4_goes_244 rfl ?_
                    refine ew_iload_n (t := 248) dX4_goes_247 rfl rfl rfl ?_
                    refine ew_ic1 (t := 249) dX4_goes_248 rfl ?_
                    refine ew_iadd (t := 250) dX4_goes_249 rfl ?_
                    refine ew_iload (t := 252) dX4_goes_250 rfl rfl ?_
                    refine ew_iast (t := 253) (j := 1) (N := 7) (h' := (hov h [(46, IA 7 (upd CA 0 ((CD 0) / 3))), (47, IA 7 (upd PA 0 (((CD 0) - (CD 0) / 3 * 3) + 1))), (45, IA 7 (upd E 1 (nI b1))), (48, IA 7 (upd TA 1 (TA 0))), (49, IA 7 (upd SA 1 (SA 0)))])) m49 (vpI (by decide)) (by decide) dX4_goes_252 (hov_up rfl) rfl ?_
                    refine ew_aload_n (t := 254) dX4_goes_253 rfl rfl rfl ?_
                    refine ew_get (t := 257) (j := 19) (v := .ref 50) fcX4 m33 (Nat.le_of_ble_eq_true rfl) q1040 rfl dX4_goes_254 rfl ?_
                    refine ew_iload_n (t := 258) dX4_goes_257 rfl rfl rfl ?_
                    refine ew_ic1 (t := 259) dX4_goes_258 rfl ?_
                    refine ew_iadd (t := 260) dX4_goes_259 rfl ?_
                    refine ew_iload (t := 262) dX4_goes_260 rfl rfl ?_
                    refine ew_iast (t := 263) (j := 1) (N := 7) (h' := (hov h [(46, IA 7 (upd CA 0 ((CD 0) / 3))), (47, IA 7 (upd PA 0 (((CD 0) - (CD 0) / 3 * 3) + 1))), (45, IA 7 (upd E 1 (nI b1))), (48, IA 7 (upd TA 1 (TA 0))), (49, IA 7 (upd SA 1 (SA 0))), (50, IA 7 (upd FA 1 ((FA 0) + ((((CD 0) - (CD 0) / 3 * 3) + 1) * (((CD 0) - (CD 0) / 3 * 3) + 1)))))])) m50 (vpI (by decide)) (by decide) dX4_goes_262 (hov_up rfl) rfl ?_
                    refine ew_aload_n (t := 264) dX4_goes_263 rfl rfl rfl ?_
                    refine ew_get (t := 267) (j := 20) (v := .ref 51) fcX4 m33 (Nat.le_of_ble_eq_true rfl) q1041 rfl dX4_goes_264 rfl ?_
                    refine ew_iload_n (t := 268) dX4_goes_267 rfl rfl rfl ?_
                    refine ew_ic1 (t := 269) dX4_goes_268 rfl ?_
                    refine ew_iadd (t := 270) dX4_goes_269 rfl ?_
                    refine ew_aload_n (t := 271) dX4_goes_270 rfl rfl rfl ?_
                    refine ew_get (t := 274) (j := 20) (v := .ref 51) fcX4 m33 (Nat.le_of_ble_eq_true rfl) q1041 rfl dX4_goes_271 rfl ?_
                    refine ew_iload_n (t := 275) dX4_goes_274 rfl rfl rfl ?_
                    refine ew_iald (t := 276) (j := 0) (N := 7) m51 (vpI (by decide)) (by decide) dX4_goes_275 rfl ?_
                    refine ew_aload_n (t := 277) dX4_goes_276 rfl rfl rfl ?_
                    refine ew_iload_n (t := 278) dX4_goes_277 rfl rfl rfl ?_
                    refine ew_ic1 (t := 279) dX4_goes_278 rfl ?_
                    refine ew_iadd (t := 280) dX4_goes_279 rfl ?_
                    rw [show (0 + 1 : Int32) = nI (0 + 1) from rfl]
                    refine ew_callV (t := 283) (As := [_]) (am_ringed (j := 0) (b0 := b0) (b1 := b1) m33 m34 m35 m36 rfl (by omega) hF0 ha (by rw [pk_un (by omega)]; exact hE0) hb0 pk_us hb1) (fcX4).1 m33 (lw_V q1236 q1238 qs37 q60 q1239) rfl naX4_ringed dX4_goes_280 rfl (Nat.le_of_ble_eq_true rfl) (Nat.le_of_ble_eq_true rfl) (Nat.le_refl _) (Nat.le_refl _) (Nat.le_of_ble_eq_true rfl) rfl (qi ?_)
                    refine ew_imul (t := 284) dX4_goes_283 rfl ?_
                    refine ew_iast (t := 285) (j := 1) (N := 7) (h' := (hov h [(46, IA 7 (upd CA 0 ((CD 0) / 3))), (47, IA 7 (upd PA 0 (((CD 0) - (CD 0) / 3 * 3) + 1))), (45, IA 7 (upd E 1 (nI b1))), (48, IA 7 (upd TA 1 (TA 0))), (49, IA 7 (upd SA 1 (SA 0))), (50, IA 7 (upd FA 1 ((FA 0) + ((((CD 0) - (CD 0) / 3 * 3) + 1) * (((CD 0) - (CD 0) / 3 * 3) + 1))))), (51, IA 7 (upd RA 1 ((RA 0) * (ringI (s 22) (nI (0 + 1)) (s 23) (nI (awayF a b1)) (nI (awayF a b0)) (F36 (0 + 1)) (F35 (0 + 1))))))])) m51 (vpI (by decide)) (by decide) dX4_goes_284 (hov_up rfl) rfl ?_
                    refine ew_aload_n (t := 286) dX4_goes_285 rfl rfl rfl ?_
                    refine ew_get (t := 289) (j := 20) (v := .ref 51) fcX4 m33 (Nat.le_of_ble_eq_true rfl) q1041 rfl dX4_goes_286 rfl ?_
                    refine ew_iload_n (t := 290) dX4_goes_289 rfl rfl rfl ?_
                    refine ew_ic1 (t := 291) dX4_goes_290 rfl ?_
                    refine ew_iadd (t := 292) dX4_goes_291 rfl ?_
                    refine ew_iald (t := 293) (j := 1) (N := 7) rfl (vpI (by decide)) (by decide) dX4_goes_292 rfl ?_
                    rw [pk_us]
                    refine ew_if_le (t := 300) (t2 := 296) dX4_goes_293 rfl rfl (fun c_293 => ?_) (fun c_293 => ?_)
                    · refine ew_ic0 (t := 301) dX4_goes_300 rfl ?_
                      exact ew_zret rfl (by decide) dX4_goes_301 (Nat.le_refl _) (Nat.le_refl _) (goesQ_2 ((CD 0) / 3) (((CD 0) - (CD 0) / 3 * 3) + 1) (TA 0) (SA 0) (by simp only [attI0, chkI, if_neg c_132, if_neg c_143, if_pos c_149]) (fun q => q.elim c_185 (fun q => q.2 c_203)) hb1 eb1 (gp0 c_293))
                    · refine ew_ic1 (t := 297) dX4_goes_296 rfl ?_
                      refine ew_goto (t := 301) dX4_goes_297 rfl ?_
                      exact ew_zret rfl (by decide) dX4_goes_301 (Nat.le_refl _) (Nat.le_refl _) (goesQ_2 ((CD 0) / 3) (((CD 0) - (CD 0) / 3 * 3) + 1) (TA 0) (SA 0) (by simp only [attI0, chkI, if_neg c_132, if_neg c_143, if_pos c_149]) (fun q => q.elim c_185 (fun q => q.2 c_203)) hb1 eb1 (gp1 c_293))
                  · refine ew_ic0 (t := 207) dX4_goes_206 rfl ?_
                    exact ew_zret rfl (by decide) dX4_goes_207 (Nat.le_refl _) (Nat.le_refl _) (goesQ_1 ((CD 0) / 3) (((CD 0) - (CD 0) / 3 * 3) + 1) (TA 0) (SA 0) (by simp only [attI0, chkI, if_neg c_132, if_neg c_143, if_pos c_149]) (Or.inr ⟨c_192, c_203⟩))
            · refine ew_ic0 (t := 153) dX4_goes_152 rfl ?_
              exact ew_zret rfl (by decide) dX4_goes_153 (Nat.le_refl _) (Nat.le_refl _) (goesQ_0 (by simp only [attI0, chkI, if_neg c_132, if_neg c_143, if_neg c_149]))
      · exact absurd c_70 (by decide)
set_option maxHeartbeats 4000000 in
theorem am_goes1 {l : Launch} {G : GW} {h : AH} {n : Nat} {s : Nat → Int32} {al : Int64} {F34 F35 F36 CD E CA PA TA SA FA RA : Nat → Int32} {a b0 v : Nat} (m33 : h 33 = some (MO s al)) (m34 : h 34 = some (IA 8 F34)) (m35 : h 35 = some (IA 7 F35)) (m36 : h 36 = some (IA 7 F36)) (m44 : h 44 = some (IA 7 CD)) (m45 : h 45 = some (IA 7 E)) (m46 : h 46 = some (IA 7 CA)) (m47 : h 47 = some (IA 7 PA)) (m48 : h 48 = some (IA 7 TA)) (m49 : h 49 = some (IA 7 SA)) (m50 : h 50 = some (IA 7 FA)) (m51 : h 51 = some (IA 7 RA)) (hF0 : F34 0 = nI a) (ha : a < 100) (hE0 : E v = nI b0) (hb0 : b0 < 100) (hv : s 21 = nI v) (hv0 : 0 < v) (hv6 : v < 6) : AM l G yX4_goes cX4_goes 9 (some .boolean) 2 0 0 [.ref 33] h n (goesQ h n (attI1 (F34 3) (F34 4) (CD v) (CA (v - 1)) (PA (v - 1)) (TA v) (SA v)) v a b0 s F34 F35 F36 E CA PA TA SA FA RA) := by
  refine AM.of (L := [some (.ref 33), none, none, none, none, none, none, none, none]) (by decide) (Nat.le_of_ble_eq_true rfl) rfl ?_
  have hvp : nI v - 1 = nI (v - 1) := by
    obtain ⟨w, rfl⟩ : ∃ w, v = w + 1 := ⟨v - 1, by omega⟩
    exact nI_pred w
  refine ew_aload_n (t := 1) dX4_goes_0 rfl rfl rfl ?_
  refine ew_get (t := 4) (j := 21) (v := .int (s 21)) fcX4 m33 (Nat.le_of_ble_eq_true rfl) q1042 rfl dX4_goes_1 rfl ?_
  rw [hv]
  refine ew_istore_n (t := 5) (L' := [some (.ref 33), some (.int (nI v)), none, none, none, none, none, none, none]) dX4_goes_4 rfl (Nat.le_of_ble_eq_true rfl) rfl rfl ?_
  refine ew_aload_n (t := 6) dX4_goes_5 rfl rfl rfl ?_
  refine ew_get (t := 9) (j := 13) (v := .ref 44) fcX4 m33 (Nat.le_of_ble_eq_true rfl) q1034 rfl dX4_goes_6 rfl ?_
  refine ew_iload_n (t := 10) dX4_goes_9 rfl rfl rfl ?_
  refine ew_iald (t := 11) (j := v) (N := 7) m44 (vp_in_nI (by omega) (by omega)) (nI_clamp (by omega)) dX4_goes_10 rfl ?_
  refine ew_istore_n (t := 12) (L' := [some (.ref 33), some (.int (nI v)), some (.int (CD v)), none, none, none, none, none, none]) dX4_goes_11 rfl (Nat.le_of_ble_eq_true rfl) rfl rfl ?_
  refine ew_aload_n (t := 13) dX4_goes_12 rfl rfl rfl ?_
  refine ew_get (t := 16) (j := 17) (v := .ref 48) fcX4 m33 (Nat.le_of_ble_eq_true rfl) q1038 rfl dX4_goes_13 rfl ?_
  refine ew_iload_n (t := 17) dX4_goes_16 rfl rfl rfl ?_
  refine ew_iald (t := 18) (j := v) (N := 7) m48 (vp_in_nI (by omega) (by omega)) (nI_clamp (by omega)) dX4_goes_17 rfl ?_
  refine ew_istore_n (t := 19) (L' := [some (.ref 33), some (.int (nI v)), some (.int (CD v)), some (.int (TA v)), none, none, none, none, none]) dX4_goes_18 rfl (Nat.le_of_ble_eq_true rfl) rfl rfl ?_
  refine ew_aload_n (t := 20) dX4_goes_19 rfl rfl rfl ?_
  refine ew_get (t := 23) (j := 18) (v := .ref 49) fcX4 m33 (Nat.le_of_ble_eq_true rfl) q1039 rfl dX4_goes_20 rfl ?_
  refine ew_iload_n (t := 24) dX4_goes_23 rfl rfl rfl ?_
  refine ew_iald (t := 25) (j := v) (N := 7) m49 (vp_in_nI (by omega) (by omega)) (nI_clamp (by omega)) dX4_goes_24 rfl ?_
  refine ew_istore (t := 27) (L' := [some (.ref 33), some (.int (nI v)), some (.int (CD v)), some (.int (TA v)), some (.int (SA v)), none, none, none, none]) dX4_goes_25 (Nat.le_of_ble_eq_true rfl) rfl rfl ?_
  refine ew_iload_n (t := 28) dX4_goes_27 rfl rfl rfl ?_
  refine ew_if_ne (t := 37) (t2 := 31) dX4_goes_28 rfl rfl (fun c_28 => ?_) (fun c_28 => ?_)
  · refine ew_aload_n (t := 38) dX4_goes_37 rfl rfl rfl ?_
    refine ew_get (t := 41) (j := 15) (v := .ref 46) fcX4 m33 (Nat.le_of_ble_eq_true rfl) q1036 rfl dX4_goes_38 rfl ?_
    refine ew_iload_n (t := 42) dX4_goes_41 rfl rfl rfl ?_
    refine ew_ic1 (t := 43) dX4_goes_42 rfl ?_
    refine ew_isub (t := 44) dX4_goes_43 rfl ?_
    refine ew_iald (t := 45) (j := (v - 1)) (N := 7) m46 (by rw [hvp]; exact vp_in_nI (by omega) (by omega)) (by rw [hvp]; exact nI_clamp (by omega)) dX4_goes_44 rfl ?_
    refine ew_istore (t := 47) (L' := [some (.ref 33), some (.int (nI v)), some (.int (CD v)), some (.int (TA v)), some (.int (SA v)), some (.int (CA (v - 1))), none, none, none]) dX4_goes_45 (Nat.le_of_ble_eq_true rfl) rfl rfl ?_
    refine ew_iload_n (t := 48) dX4_goes_47 rfl rfl rfl ?_
    refine ew_if_ne (t := 59) (t2 := 51) dX4_goes_48 rfl rfl (fun c_48 => ?_) (fun c_48 => ?_)
    · refine ew_aload_n (t := 60) dX4_goes_59 rfl rfl rfl ?_
      refine ew_get (t := 63) (j := 16) (v := .ref 47) fcX4 m33 (Nat.le_of_ble_eq_true rfl) q1037 rfl dX4_goes_60 rfl ?_
      refine ew_iload_n (t := 64) dX4_goes_63 rfl rfl rfl ?_
      refine ew_ic1 (t := 65) dX4_goes_64 rfl ?_
      refine ew_isub (t := 66) dX4_goes_65 rfl ?_
      refine ew_iald (t := 67) (j := (v - 1)) (N := 7) m47 (by rw [hvp]; exact vp_in_nI (by omega) (by omega)) (by rw [hvp]; exact nI_clamp (by omega)) dX4_goes_66 rfl ?_
      refine ew_istore (t := 69) (L' := [some (.ref 33), some (.int (nI v)), some (.int (CD v)), some (.int (TA v)), some (.int (SA v)), some (.int (CA (v - 1))), some (.int (PA (v - 1))), none, none]) dX4_goes_67 (Nat.le_of_ble_eq_true rfl) rfl rfl ?_
      refine ew_iload_n (t := 70) dX4_goes_69 rfl rfl rfl ?_
      refine ew_if_le (t := 125) (t2 := 73) dX4_goes_70 rfl rfl (fun c_70 => ?_) (fun c_70 => ?_)
      · exact absurd c_70 (nI_nle (by omega) (by omega))
      · refine ew_iload_n (t := 74) dX4_goes_73 rfl rfl rfl ?_
        refine ew_ic1 (t := 75) dX4_goes_74 rfl ?_
        refine ew_icmp_le (t := 82) (t2 := 78) dX4_goes_75 rfl rfl (fun c_75 => ?_) (fun c_75 => ?_)
        · refine ew_ic0 (t := 83) dX4_goes_82 rfl ?_
          refine ew_istore (t := 85) (L' := [some (.ref 33), some (.int (nI v)), some (.int (CD v)), some (.int (TA v)), some (.int (SA v)), some (.int (CA (v - 1))), some (.int (PA (v - 1))), some (.int 0), none]) dX4_goes_83 (Nat.le_of_ble_eq_true rfl) rfl rfl ?_
          refine ew_iload (t := 87) dX4_goes_85 rfl rfl ?_
          refine ew_if_eq (t := 112) (t2 := 90) dX4_goes_87 rfl rfl (fun c_87 => ?_) (fun c_87 => ?_)
          · refine ew_iload_n (t := 113) dX4_goes_112 rfl rfl rfl ?_
            refine ew_ic2 (t := 114) dX4_goes_113 rfl ?_
            refine ew_irem (t := 115) dX4_goes_114 (by decide) rfl ?_
            refine ew_ic1 (t := 116) dX4_goes_115 rfl ?_
            refine ew_icmp_ne (t := 125) (t2 := 119) dX4_goes_116 rfl rfl (fun c_116 => ?_) (fun c_116 => ?_)
            · refine ew_iload_n (t := 126) dX4_goes_125 rfl rfl rfl ?_
              refine ew_aload_n (t := 127) dX4_goes_126 rfl rfl rfl ?_
              refine ew_get (t := 130) (j := 0) (v := .ref 34) fcX4 m33 (Nat.le_of_ble_eq_true rfl) q1021 rfl dX4_goes_127 rfl ?_
              refine ew_ic3 (t := 131) dX4_goes_130 rfl ?_
              refine ew_iald (t := 132) (j := 3) (N := 8) m34 (vpI (by decide)) (by decide) dX4_goes_131 rfl ?_
              refine ew_icmp_gt (t := 152) (t2 := 135) dX4_goes_132 rfl rfl (fun c_132 => ?_) (fun c_132 => ?_)
              · refine ew_ic0 (t := 153) dX4_goes_152 rfl ?_
                exact ew_zret rfl (by decide) dX4_goes_153 (Nat.le_refl _) (Nat.le_refl _) (goesQ_0 (by simp only [attI1, chkI, if_pos c_75, if_neg c_116, if_pos c_132]))
              · refine ew_iload (t := 137) dX4_goes_135 rfl rfl ?_
                refine ew_aload_n (t := 138) dX4_goes_137 rfl rfl rfl ?_
                refine ew_get (t := 141) (j := 0) (v := .ref 34) fcX4 m33 (Nat.le_of_ble_eq_true rfl) q1021 rfl dX4_goes_138 rfl ?_
                refine ew_ic4 (t := 142) dX4_goes_141 rfl ?_
                refine ew_iald (t := 143) (j := 4) (N := 8) m34 (vpI (by decide)) (by decide) dX4_goes_142 rfl ?_
                refine ew_icmp_gt (t := 152) (t2 := 146) dX4_goes_143 rfl rfl (fun c_143 => ?_) (fun c_143 => ?_)
                · refine ew_ic0 (t := 153) dX4_goes_152 rfl ?_
                  exact ew_zret rfl (by decide) dX4_goes_153 (Nat.le_refl _) (Nat.le_refl _) (goesQ_0 (by simp only [attI1, chkI, if_pos c_75, if_neg c_116, if_neg c_132, if_pos c_143]))
                · refine ew_iload (t := 148) dX4_goes_146 rfl rfl ?_
                  refine ew_ic1 (t := 149) dX4_goes_148 rfl ?_
                  refine ew_icmp_ge (t := 154) (t2 := 152) dX4_goes_149 rfl rfl (fun c_149 => ?_) (fun c_149 => ?_)
                  · refine ew_aload_n (t := 155) dX4_goes_154 rfl rfl rfl ?_
                    refine ew_get (t := 158) (j := 19) (v := .ref 50) fcX4 m33 (Nat.le_of_ble_eq_true rfl) q1040 rfl dX4_goes_155 rfl ?_
                    refine ew_iload_n (t := 159) dX4_goes_158 rfl rfl rfl ?_
                    refine ew_iald (t := 160) (j := v) (N := 7) m50 (vp_in_nI (by omega) (by omega)) (nI_clamp (by omega)) dX4_goes_159 rfl ?_
                    refine ew_iload (t := 162) dX4_goes_160 rfl rfl ?_
                    refine ew_iload (t := 164) dX4_goes_162 rfl rfl ?_
                    refine ew_imul (t := 165) dX4_goes_164 rfl ?_
                    refine ew_iadd (t := 166) dX4_goes_165 rfl ?_
                    refine ew_istore (t := 168) (L' := [some (.ref 33), some (.int (nI v)), some (.int (CD v)), some (.int (TA v)), some (.int (SA v)), some (.int (CA (v - 1))), some (.int (PA (v - 1))), some (.int ((FA v) + ((PA (v - 1)) * (PA (v - 1))))), none]) dX4_goes_166 (Nat.le_of_ble_eq_true rfl) rfl rfl ?_
                    refine ew_aload_n (t := 169) dX4_goes_168 rfl rfl rfl ?_
                    refine ew_get (t := 172) (j := 14) (v := .ref 45) fcX4 m33 (Nat.le_of_ble_eq_true rfl) q1035 rfl dX4_goes_169 rfl ?_
                    refine ew_iload_n (t := 173) dX4_goes_172 rfl rfl rfl ?_
                    refine ew_iald (t := 174) (j := v) (N := 7) m45 (vp_in_nI (by omega) (by omega)) (nI_clamp (by omega)) dX4_goes_173 rfl ?_
                    rw [hE0]
                    refine ew_iload (t := 176) dX4_goes_174 rfl rfl ?_
                    refine ew_iload (t := 178) dX4_goes_176 rfl rfl ?_
                    refine ew_callS (t := 181) (As := [_, _, _]) (am_gone  _ _ _) (lw_S q1227 q1228 q60 q1229) naX4_gone dX4_goes_178 rfl (Nat.le_of_ble_eq_true rfl) (Nat.le_of_ble_eq_true rfl) (Nat.le_refl _) (Nat.le_refl _) (Nat.le_of_ble_eq_true rfl) rfl (qi ?_)
                    refine ew_istore (t := 183) (L' := [some (.ref 33), some (.int (nI v)), some (.int (CD v)), some (.int (TA v)), some (.int (SA v)), some (.int (CA (v - 1))), some (.int (PA (v - 1))), some (.int ((FA v) + ((PA (v - 1)) * (PA (v - 1))))), some (.int (goneF (nI b0) (CA (v - 1)) (PA (v - 1))))]) dX4_goes_181 (Nat.le_of_ble_eq_true rfl) rfl rfl ?_
                    refine ew_iload (t := 185) dX4_goes_183 rfl rfl ?_
                    refine ew_if_lt (t := 206) (t2 := 188) dX4_goes_185 rfl rfl (fun c_185 => ?_) (fun c_185 => ?_)
                    · refine ew_ic0 (t := 207) dX4_goes_206 rfl ?_
                      exact ew_zret rfl (by decide) dX4_goes_207 (Nat.le_refl _) (Nat.le_refl _) (goesQ_1 (CA (v - 1)) (PA (v - 1)) (TA v) (SA v) (by simp only [attI1, chkI, if_pos c_75, if_neg c_116, if_neg c_132, if_neg c_143, if_pos c_149]) (Or.inl c_185))
                    · refine ew_aload_n (t := 189) dX4_goes_188 rfl rfl rfl ?_
                      refine ew_get (t := 192) (j := 24) (v := .int (s 24)) fcX4 m33 (Nat.le_of_ble_eq_true rfl) q1045 rfl dX4_goes_189 rfl ?_
                      refine ew_if_ne (t := 208) (t2 := 195) dX4_goes_192 rfl rfl (fun c_192 => ?_) (fun c_192 => ?_)
                      · obtain ⟨b1, hb1, eb1⟩ := goneF_nn c_185
                        rw [eb1]
                        refine ew_aload_n (t := 209) dX4_goes_208 rfl rfl rfl ?_
                        refine ew_get (t := 212) (j := 15) (v := .ref 46) fcX4 m33 (Nat.le_of_ble_eq_true rfl) q1036 rfl dX4_goes_209 rfl ?_
                        refine ew_iload_n (t := 213) dX4_goes_212 rfl rfl rfl ?_
                        refine ew_iload (t := 215) dX4_goes_213 rfl rfl ?_
                        refine ew_iast (t := 216) (j := v) (N := 7) (h' := (hov h [(46, IA 7 (upd CA v (CA (v - 1))))])) m46 (vp_in_nI (by omega) (by omega)) (nI_clamp (by omega)) dX4_goes_215 (hov_up0) rfl ?_
                        refine ew_aload_n (t := 217) dX4_goes_216 rfl rfl rfl ?_
                        refine ew_get (t := 220) (j := 16) (v := .ref 47) fcX4 m33 (Nat.le_of_ble_eq_true rfl) q1037 rfl dX4_goes_217 rfl ?_
                        refine ew_iload_n (t := 221) dX4_goes_220 rfl rfl rfl ?_
                        refine ew_iload (t := 223) dX4_goes_221 rfl rfl ?_
                        refine ew_iast (t := 224) (j := v) (N := 7) (h' := (hov h [(46, IA 7 (upd CA v (CA (v - 1)))), (47, IA 7 (upd PA v (PA (v - 1))))])) m47 (vp_in_nI (by omega) (by omega)) (nI_clamp (by omega)) dX4_goes_223 (hov_up rfl) rfl ?_
                        refine ew_aload_n (t := 225) dX4_goes_224 rfl rfl rfl ?_
                        refine ew_get (t := 228) (j := 14) (v := .ref 45) fcX4 m33 (Nat.le_of_ble_eq_true rfl) q1035 rfl dX4_goes_225 rfl ?_
                        refine ew_iload_n (t := 229) dX4_goes_228 rfl rfl rfl ?_
                        refine ew_ic1 (t := 230) dX4_goes_229 rfl ?_
                        refine ew_iadd (t := 231) dX4_goes_230 rfl ?_
                        refine ew_iload (t := 233) dX4_goes_231 rfl rfl ?_
                        refine ew_iast (t := 234) (j := (v + 1)) (N := 7) (h' := (hov h [(46, IA 7 (upd CA v (CA (v - 1)))), (47, IA 7 (upd PA v (PA (v - 1)))), (45, IA 7 (upd E (v + 1) (nI b1)))])) m45 (by rw [nI_1]; exact vp_in_nI (by omega) (by omega)) (by rw [nI_1]; exact nI_clamp (by omega)) dX4_goes_233 (hov_up rfl) rfl ?_
                        refine ew_aload_n (t := 235) dX4_goes_234 rfl rfl rfl ?_
                        refine ew_get (t := 238) (j := 17) (v := .ref 48) fcX4 m33 (Nat.le_of_ble_eq_true rfl) q1038 rfl dX4_goes_235 rfl ?_
                        refine ew_iload_n (t := 239) dX4_goes_238 rfl rfl rfl ?_
                        refine ew_ic1 (t := 240) dX4_goes_239 rfl ?_
                        refine ew_iadd (t := 241) dX4_goes_240 rfl ?_
                        refine ew_iload_n (t := 242) dX4_goes_241 rfl rfl rfl ?_
                        refine ew_iast (t := 243) (j := (v + 1)) (N := 7) (h' := (hov h [(46, IA 7 (upd CA v (CA (v - 1)))), (47, IA 7 (upd PA v (PA (v - 1)))), (45, IA 7 (upd E (v + 1) (nI b1))), (48, IA 7 (upd TA (v + 1) (TA v)))])) m48 (by rw [nI_1]; exact vp_in_nI (by omega) (by omega)) (by rw [nI_1]; exact nI_clamp (by omega)) dX4_goes_242 (hov_up rfl) rfl ?_
                        refine ew_aload_n (t := 244) dX4_goes_243 rfl rfl rfl ?_
                        refine ew_get (t := 247) (j := 18) (v := .ref 49) fcX4 m33 (Nat.le_of_ble_eq_true rfl) q1039 rfl dX4_goes_244 rfl ?_
                        refine ew_iload_n (t := 248) dX4_goes_247 rfl rfl rfl ?_
                        refine ew_ic1 (t := 249) dX4_goes_248 rfl ?_
                        refine ew_iadd (t := 250) dX4_goes_249 rfl ?_
                        refine ew_iload (t := 252) dX4_goes_250 rfl rfl ?_
                        refine ew_iast (t := 253) (j := (v + 1)) (N := 7) (h' := (hov h [(46, IA 7 (upd CA v (CA (v - 1)))), (47, IA 7 (upd PA v (PA (v - 1)))), (45, IA 7 (upd E (v + 1) (nI b1))), (48, IA 7 (upd TA (v + 1) (TA v))), (49, IA 7 (upd SA (v + 1) (SA v)))])) m49 (by rw [nI_1]; exact vp_in_nI (by omega) (by omega)) (by rw [nI_1]; exact nI_clamp (by omega)) dX4_goes_252 (hov_up rfl) rfl ?_
                        refine ew_aload_n (t := 254) dX4_goes_253 rfl rfl rfl ?_
                        refine ew_get (t := 257) (j := 19) (v := .ref 50) fcX4 m33 (Nat.le_of_ble_eq_true rfl) q1040 rfl dX4_goes_254 rfl ?_
                        refine ew_iload_n (t := 258) dX4_goes_257 rfl rfl rfl ?_
                        refine ew_ic1 (t := 259) dX4_goes_258 rfl ?_
                        refine ew_iadd (t := 260) dX4_goes_259 rfl ?_
                        refine ew_iload (t := 262) dX4_goes_260 rfl rfl ?_
                        refine ew_iast (t := 263) (j := (v + 1)) (N := 7) (h' := (hov h [(46, IA 7 (upd CA v (CA (v - 1)))), (47, IA 7 (upd PA v (PA (v - 1)))), (45, IA 7 (upd E (v + 1) (nI b1))), (48, IA 7 (upd TA (v + 1) (TA v))), (49, IA 7 (upd SA (v + 1) (SA v))), (50, IA 7 (upd FA (v + 1) ((FA v) + ((PA (v - 1)) * (PA (v - 1))))))])) m50 (by rw [nI_1]; exact vp_in_nI (by omega) (by omega)) (by rw [nI_1]; exact nI_clamp (by omega)) dX4_goes_262 (hov_up rfl) rfl ?_
                        refine ew_aload_n (t := 264) dX4_goes_263 rfl rfl rfl ?_
                        refine ew_get (t := 267) (j := 20) (v := .ref 51) fcX4 m33 (Nat.le_of_ble_eq_true rfl) q1041 rfl dX4_goes_264 rfl ?_
                        refine ew_iload_n (t := 268) dX4_goes_267 rfl rfl rfl ?_
                        refine ew_ic1 (t := 269) dX4_goes_268 rfl ?_
                        refine ew_iadd (t := 270) dX4_goes_269 rfl ?_
                        refine ew_aload_n (t := 271) dX4_goes_270 rfl rfl rfl ?_
                        refine ew_get (t := 274) (j := 20) (v := .ref 51) fcX4 m33 (Nat.le_of_ble_eq_true rfl) q1041 rfl dX4_goes_271 rfl ?_
                        refine ew_iload_n (t := 275) dX4_goes_274 rfl rfl rfl ?_
                        refine ew_iald (t := 276) (j := v) (N := 7) m51 (vp_in_nI (by omega) (by omega)) (nI_clamp (by omega)) dX4_goes_275 rfl ?_
                        refine ew_aload_n (t := 277) dX4_goes_276 rfl rfl rfl ?_
                        refine ew_iload_n (t := 278) dX4_goes_277 rfl rfl rfl ?_
                        refine ew_ic1 (t := 279) dX4_goes_278 rfl ?_
                        refine ew_iadd (t := 280) dX4_goes_279 rfl ?_
                        rw [nI_1]
                        refine ew_callV (t := 283) (As := [_]) (am_ringed (j := v) (b0 := b0) (b1 := b1) m33 m34 m35 m36 rfl (by omega) hF0 ha (by rw [pk_un (by omega)]; exact hE0) hb0 pk_us hb1) (fcX4).1 m33 (lw_V q1236 q1238 qs37 q60 q1239) rfl naX4_ringed dX4_goes_280 rfl (Nat.le_of_ble_eq_true rfl) (Nat.le_of_ble_eq_true rfl) (Nat.le_refl _) (Nat.le_refl _) (Nat.le_of_ble_eq_true rfl) rfl (qi ?_)
                        refine ew_imul (t := 284) dX4_goes_283 rfl ?_
                        refine ew_iast (t := 285) (j := (v + 1)) (N := 7) (h' := (hov h [(46, IA 7 (upd CA v (CA (v - 1)))), (47, IA 7 (upd PA v (PA (v - 1)))), (45, IA 7 (upd E (v + 1) (nI b1))), (48, IA 7 (upd TA (v + 1) (TA v))), (49, IA 7 (upd SA (v + 1) (SA v))), (50, IA 7 (upd FA (v + 1) ((FA v) + ((PA (v - 1)) * (PA (v - 1)))))), (51, IA 7 (upd RA (v + 1) ((RA v) * (ringI (s 22) (nI (v + 1)) (s 23) (nI (awayF a b1)) (nI (awayF a b0)) (F36 (v + 1)) (F35 (v + 1))))))])) m51 (vp_in_nI (by omega) (by omega)) (nI_clamp (by omega)) dX4_goes_284 (hov_up rfl) rfl ?_
                        refine ew_aload_n (t := 286) dX4_goes_285 rfl rfl rfl ?_
                        refine ew_get (t := 289) (j := 20) (v := .ref 51) fcX4 m33 (Nat.le_of_ble_eq_true rfl) q1041 rfl dX4_goes_286 rfl ?_
                        refine ew_iload_n (t := 290) dX4_goes_289 rfl rfl rfl ?_
                        refine ew_ic1 (t := 291) dX4_goes_290 rfl ?_
                        refine ew_iadd (t := 292) dX4_goes_291 rfl ?_
                        refine ew_iald (t := 293) (j := (v + 1)) (N := 7) rfl (by rw [nI_1]; exact vp_in_nI (by omega) (by omega)) (by rw [nI_1]; exact nI_clamp (by omega)) dX4_goes_292 rfl ?_
                        rw [pk_us]
                        refine ew_if_le (t := 300) (t2 := 296) dX4_goes_293 rfl rfl (fun c_293 => ?_) (fun c_293 => ?_)
                        · refine ew_ic0 (t := 301) dX4_goes_300 rfl ?_
                          exact ew_zret rfl (by decide) dX4_goes_301 (Nat.le_refl _) (Nat.le_refl _) (goesQ_2 (CA (v - 1)) (PA (v - 1)) (TA v) (SA v) (by simp only [attI1, chkI, if_pos c_75, if_neg c_116, if_neg c_132, if_neg c_143, if_pos c_149]) (fun q => q.elim c_185 (fun q => c_192 q.1)) hb1 eb1 (gp0 c_293))
                        · refine ew_ic1 (t := 297) dX4_goes_296 rfl ?_
                          refine ew_goto (t := 301) dX4_goes_297 rfl ?_
                          exact ew_zret rfl (by decide) dX4_goes_301 (Nat.le_refl _) (Nat.le_refl _) (goesQ_2 (CA (v - 1)) (PA (v - 1)) (TA v) (SA v) (by simp only [attI1, chkI, if_pos c_75, if_neg c_116, if_neg c_132, if_neg c_143, if_pos c_149]) (fun q => q.elim c_185 (fun q => c_192 q.1)) hb1 eb1 (gp1 c_293))
                      · refine ew_iload (t := 197) dX4_goes_195 rfl rfl ?_
                        refine ew_aload_n (t := 198) dX4_goes_197 rfl rfl rfl ?_
                        refine ew_get (t := 201) (j := 0) (v := .ref 34) fcX4 m33 (Nat.le_of_ble_eq_true rfl) q1021 rfl dX4_goes_198 rfl ?_
                        refine ew_ic5 (t := 202) dX4_goes_201 rfl ?_
                        refine ew_iald (t := 203) (j := 5) (N := 8) m34 (vpI (by decide)) (by decide) dX4_goes_202 rfl ?_
                        refine ew_icmp_le (t := 208) (t2 := 206) dX4_goes_203 rfl rfl (fun c_203 => ?_) (fun c_203 => ?_)
                        · obtain ⟨b1, hb1, eb1⟩ := goneF_nn c_185
                          rw [eb1]
                          refine ew_aload_n (t := 209) dX4_goes_208 rfl rfl rfl ?_
                          refine ew_get (t := 212) (j := 15) (v := .ref 46) fcX4 m33 (Nat.le_of_ble_eq_true rfl) q1036 rfl dX4_goes_209 rfl ?_
                          refine ew_iload_n (t := 213) dX4_goes_212 rfl rfl rfl ?_
                          refine ew_iload (t := 215) dX4_goes_213 rfl rfl ?_
                          refine ew_iast (t := 216) (j := v) (N := 7) (h' := (hov h [(46, IA 7 (upd CA v (CA (v - 1))))])) m46 (vp_in_nI (by omega) (by omega)) (nI_clamp (by omega)) dX4_goes_215 (hov_up0) rfl ?_
                          refine ew_aload_n (t := 217) dX4_goes_216 rfl rfl rfl ?_
                          refine ew_get (t := 220) (j := 16) (v := .ref 47) fcX4 m33 (Nat.le_of_ble_eq_true rfl) q1037 rfl dX4_goes_217 rfl ?_
                          refine ew_iload_n (t := 221) dX4_goes_220 rfl rfl rfl ?_
                          refine ew_iload (t := 223) dX4_goes_221 rfl rfl ?_
                          refine ew_iast (t := 224) (j := v) (N := 7) (h' := (hov h [(46, IA 7 (upd CA v (CA (v - 1)))), (47, IA 7 (upd PA v (PA (v - 1))))])) m47 (vp_in_nI (by omega) (by omega)) (nI_clamp (by omega)) dX4_goes_223 (hov_up rfl) rfl ?_
                          refine ew_aload_n (t := 225) dX4_goes_224 rfl rfl rfl ?_
                          refine ew_get (t := 228) (j := 14) (v := .ref 45) fcX4 m33 (Nat.le_of_ble_eq_true rfl) q1035 rfl dX4_goes_225 rfl ?_
                          refine ew_iload_n (t := 229) dX4_goes_228 rfl rfl rfl ?_
                          refine ew_ic1 (t := 230) dX4_goes_229 rfl ?_
                          refine ew_iadd (t := 231) dX4_goes_230 rfl ?_
                          refine ew_iload (t := 233) dX4_goes_231 rfl rfl ?_
                          refine ew_iast (t := 234) (j := (v + 1)) (N := 7) (h' := (hov h [(46, IA 7 (upd CA v (CA (v - 1)))), (47, IA 7 (upd PA v (PA (v - 1)))), (45, IA 7 (upd E (v + 1) (nI b1)))])) m45 (by rw [nI_1]; exact vp_in_nI (by omega) (by omega)) (by rw [nI_1]; exact nI_clamp (by omega)) dX4_goes_233 (hov_up rfl) rfl ?_
                          refine ew_aload_n (t := 235) dX4_goes_234 rfl rfl rfl ?_
                          refine ew_get (t := 238) (j := 17) (v := .ref 48) fcX4 m33 (Nat.le_of_ble_eq_true rfl) q1038 rfl dX4_goes_235 rfl ?_
                          refine ew_iload_n (t := 239) dX4_goes_238 rfl rfl rfl ?_
                          refine ew_ic1 (t := 240) dX4_goes_239 rfl ?_
                          refine ew_iadd (t := 241) dX4_goes_240 rfl ?_
                          refine ew_iload_n (t := 242) dX4_goes_241 rfl rfl rfl ?_
                          refine ew_iast (t := 243) (j := (v + 1)) (N := 7) (h' := (hov h [(46, IA 7 (upd CA v (CA (v - 1)))), (47, IA 7 (upd PA v (PA (v - 1)))), (45, IA 7 (upd E (v + 1) (nI b1))), (48, IA 7 (upd TA (v + 1) (TA v)))])) m48 (by rw [nI_1]; exact vp_in_nI (by omega) (by omega)) (by rw [nI_1]; exact nI_clamp (by omega)) dX4_goes_242 (hov_up rfl) rfl ?_
                          refine ew_aload_n (t := 244) dX4_goes_243 rfl rfl rfl ?_
                          refine ew_get (t := 247) (j := 18) (v := .ref 49) fcX4 m33 (Nat.le_of_ble_eq_true rfl) q1039 rfl dX4_goes_244 rfl ?_
                          refine ew_iload_n (t := 248) dX4_goes_247 rfl rfl rfl ?_
                          refine ew_ic1 (t := 249) dX4_goes_248 rfl ?_
                          refine ew_iadd (t := 250) dX4_goes_249 rfl ?_
                          refine ew_iload (t := 252) dX4_goes_250 rfl rfl ?_
                          refine ew_iast (t := 253) (j := (v + 1)) (N := 7) (h' := (hov h [(46, IA 7 (upd CA v (CA (v - 1)))), (47, IA 7 (upd PA v (PA (v - 1)))), (45, IA 7 (upd E (v + 1) (nI b1))), (48, IA 7 (upd TA (v + 1) (TA v))), (49, IA 7 (upd SA (v + 1) (SA v)))])) m49 (by rw [nI_1]; exact vp_in_nI (by omega) (by omega)) (by rw [nI_1]; exact nI_clamp (by omega)) dX4_goes_252 (hov_up rfl) rfl ?_
                          refine ew_aload_n (t := 254) dX4_goes_253 rfl rfl rfl ?_
                          refine ew_get (t := 257) (j := 19) (v := .ref 50) fcX4 m33 (Nat.le_of_ble_eq_true rfl) q1040 rfl dX4_goes_254 rfl ?_
                          refine ew_iload_n (t := 258) dX4_goes_257 rfl rfl rfl ?_
                          refine ew_ic1 (t := 259) dX4_goes_258 rfl ?_
                          refine ew_iadd (t := 260) dX4_goes_259 rfl ?_
                          refine ew_iload (t := 262) dX4_goes_260 rfl rfl ?_
                          refine ew_iast (t := 263) (j := (v + 1)) (N := 7) (h' := (hov h [(46, IA 7 (upd CA v (CA (v - 1)))), (47, IA 7 (upd PA v (PA (v - 1)))), (45, IA 7 (upd E (v + 1) (nI b1))), (48, IA 7 (upd TA (v + 1) (TA v))), (49, IA 7 (upd SA (v + 1) (SA v))), (50, IA 7 (upd FA (v + 1) ((FA v) + ((PA (v - 1)) * (PA (v - 1))))))])) m50 (by rw [nI_1]; exact vp_in_nI (by omega) (by omega)) (by rw [nI_1]; exact nI_clamp (by omega)) dX4_goes_262 (hov_up rfl) rfl ?_
                          refine ew_aload_n (t := 264) dX4_goes_263 rfl rfl rfl ?_
                          refine ew_get (t := 267) (j := 20) (v := .ref 51) fcX4 m33 (Nat.le_of_ble_eq_true rfl) q1041 rfl dX4_goes_264 rfl ?_
                          refine ew_iload_n (t := 268) dX4_goes_267 rfl rfl rfl ?_
                          refine ew_ic1 (t := 269) dX4_goes_268 rfl ?_
                          refine ew_iadd (t := 270) dX4_goes_269 rfl ?_
                          refine ew_aload_n (t := 271) dX4_goes_270 rfl rfl rfl ?_
                          refine ew_get (t := 274) (j := 20) (v := .ref 51) fcX4 m33 (Nat.le_of_ble_eq_true rfl) q1041 rfl dX4_goes_271 rfl ?_
                          refine ew_iload_n (t := 275) dX4_goes_274 rfl rfl rfl ?_
                          refine ew_iald (t := 276) (j := v) (N := 7) m51 (vp_in_nI (by omega) (by omega)) (nI_clamp (by omega)) dX4_goes_275 rfl ?_
                          refine ew_aload_n (t := 277) dX4_goes_276 rfl rfl rfl ?_
                          refine ew_iload_n (t := 278) dX4_goes_277 rfl rfl rfl ?_
                          refine ew_ic1 (t := 279) dX4_goes_278 rfl ?_
                          refine ew_iadd (t := 280) dX4_goes_279 rfl ?_
                          rw [nI_1]
                          refine ew_callV (t := 283) (As := [_]) (am_ringed (j := v) (b0 := b0) (b1 := b1) m33 m34 m35 m36 rfl (by omega) hF0 ha (by rw [pk_un (by omega)]; exact hE0) hb0 pk_us hb1) (fcX4).1 m33 (lw_V q1236 q1238 qs37 q60 q1239) rfl naX4_ringed dX4_goes_280 rfl (Nat.le_of_ble_eq_true rfl) (Nat.le_of_ble_eq_true rfl) (Nat.le_refl _) (Nat.le_refl _) (Nat.le_of_ble_eq_true rfl) rfl (qi ?_)
                          refine ew_imul (t := 284) dX4_goes_283 rfl ?_
                          refine ew_iast (t := 285) (j := (v + 1)) (N := 7) (h' := (hov h [(46, IA 7 (upd CA v (CA (v - 1)))), (47, IA 7 (upd PA v (PA (v - 1)))), (45, IA 7 (upd E (v + 1) (nI b1))), (48, IA 7 (upd TA (v + 1) (TA v))), (49, IA 7 (upd SA (v + 1) (SA v))), (50, IA 7 (upd FA (v + 1) ((FA v) + ((PA (v - 1)) * (PA (v - 1)))))), (51, IA 7 (upd RA (v + 1) ((RA v) * (ringI (s 22) (nI (v + 1)) (s 23) (nI (awayF a b1)) (nI (awayF a b0)) (F36 (v + 1)) (F35 (v + 1))))))])) m51 (vp_in_nI (by omega) (by omega)) (nI_clamp (by omega)) dX4_goes_284 (hov_up rfl) rfl ?_
                          refine ew_aload_n (t := 286) dX4_goes_285 rfl rfl rfl ?_
                          refine ew_get (t := 289) (j := 20) (v := .ref 51) fcX4 m33 (Nat.le_of_ble_eq_true rfl) q1041 rfl dX4_goes_286 rfl ?_
                          refine ew_iload_n (t := 290) dX4_goes_289 rfl rfl rfl ?_
                          refine ew_ic1 (t := 291) dX4_goes_290 rfl ?_
                          refine ew_iadd (t := 292) dX4_goes_291 rfl ?_
                          refine ew_iald (t := 293) (j := (v + 1)) (N := 7) rfl (by rw [nI_1]; exact vp_in_nI (by omega) (by omega)) (by rw [nI_1]; exact nI_clamp (by omega)) dX4_goes_292 rfl ?_
                          rw [pk_us]
                          refine ew_if_le (t := 300) (t2 := 296) dX4_goes_293 rfl rfl (fun c_293 => ?_) (fun c_293 => ?_)
                          · refine ew_ic0 (t := 301) dX4_goes_300 rfl ?_
                            exact ew_zret rfl (by decide) dX4_goes_301 (Nat.le_refl _) (Nat.le_refl _) (goesQ_2 (CA (v - 1)) (PA (v - 1)) (TA v) (SA v) (by simp only [attI1, chkI, if_pos c_75, if_neg c_116, if_neg c_132, if_neg c_143, if_pos c_149]) (fun q => q.elim c_185 (fun q => q.2 c_203)) hb1 eb1 (gp0 c_293))
                          · refine ew_ic1 (t := 297) dX4_goes_296 rfl ?_
                            refine ew_goto (t := 301) dX4_goes_297 rfl ?_
                            exact ew_zret rfl (by decide) dX4_goes_301 (Nat.le_refl _) (Nat.le_refl _) (goesQ_2 (CA (v - 1)) (PA (v - 1)) (TA v) (SA v) (by simp only [attI1, chkI, if_pos c_75, if_neg c_116, if_neg c_132, if_neg c_143, if_pos c_149]) (fun q => q.elim c_185 (fun q => q.2 c_203)) hb1 eb1 (gp1 c_293))
                        · refine ew_ic0 (t := 207) dX4_goes_206 rfl ?_
                          exact ew_zret rfl (by decide) dX4_goes_207 (Nat.le_refl _) (Nat.le_refl _) (goesQ_1 (CA (v - 1)) (PA (v - 1)) (TA v) (SA v) (by simp only [attI1, chkI, if_pos c_75, if_neg c_116, if_neg c_132, if_neg c_143, if_pos c_149]) (Or.inr ⟨c_192, c_203⟩))
                  · refine ew_ic0 (t := 153) dX4_goes_152 rfl ?_
                    exact ew_zret rfl (by decide) dX4_goes_153 (Nat.le_refl _) (Nat.le_refl _) (goesQ_0 (by simp only [attI1, chkI, if_pos c_75, if_neg c_116, if_neg c_132, if_neg c_143, if_neg c_149]))
            · refine ew_iinc (t := 122) (x := (SA v)) (v := ((SA v) + 1)) (L' := [some (.ref 33), some (.int (nI v)), some (.int (CD v)), some (.int (TA v)), some (.int ((SA v) + 1)), some (.int (CA (v - 1))), some (.int (PA (v - 1))), some (.int 0), none]) dX4_goes_119 rfl rfl (Nat.le_of_ble_eq_true rfl) rfl rfl ?_
              refine ew_iinc (t := 125) (x := (PA (v - 1))) (v := ((PA (v - 1)) + (-1))) (L' := [some (.ref 33), some (.int (nI v)), some (.int (CD v)), some (.int (TA v)), some (.int ((SA v) + 1)), some (.int (CA (v - 1))), some (.int ((PA (v - 1)) + (-1))), some (.int 0), none]) dX4_goes_122 rfl rfl (Nat.le_of_ble_eq_true rfl) rfl rfl ?_
              refine ew_iload_n (t := 126) dX4_goes_125 rfl rfl rfl ?_
              refine ew_aload_n (t := 127) dX4_goes_126 rfl rfl rfl ?_
              refine ew_get (t := 130) (j := 0) (v := .ref 34) fcX4 m33 (Nat.le_of_ble_eq_true rfl) q1021 rfl dX4_goes_127 rfl ?_
              refine ew_ic3 (t := 131) dX4_goes_130 rfl ?_
              refine ew_iald (t := 132) (j := 3) (N := 8) m34 (vpI (by decide)) (by decide) dX4_goes_131 rfl ?_
              refine ew_icmp_gt (t := 152) (t2 := 135) dX4_goes_132 rfl rfl (fun c_132 => ?_) (fun c_132 => ?_)
              · refine ew_ic0 (t := 153) dX4_goes_152 rfl ?_
                exact ew_zret rfl (by decide) dX4_goes_153 (Nat.le_refl _) (Nat.le_refl _) (goesQ_0 (by simp only [attI1, chkI, if_pos c_75, if_pos c_116, if_pos c_132]))
              · refine ew_iload (t := 137) dX4_goes_135 rfl rfl ?_
                refine ew_aload_n (t := 138) dX4_goes_137 rfl rfl rfl ?_
                refine ew_get (t := 141) (j := 0) (v := .ref 34) fcX4 m33 (Nat.le_of_ble_eq_true rfl) q1021 rfl dX4_goes_138 rfl ?_
                refine ew_ic4 (t := 142) dX4_goes_141 rfl ?_
                refine ew_iald (t := 143) (j := 4) (N := 8) m34 (vpI (by decide)) (by decide) dX4_goes_142 rfl ?_
                refine ew_icmp_gt (t := 152) (t2 := 146) dX4_goes_143 rfl rfl (fun c_143 => ?_) (fun c_143 => ?_)
                · refine ew_ic0 (t := 153) dX4_goes_152 rfl ?_
                  exact ew_zret rfl (by decide) dX4_goes_153 (Nat.le_refl _) (Nat.le_refl _) (goesQ_0 (by simp only [attI1, chkI, if_pos c_75, if_pos c_116, if_neg c_132, if_pos c_143]))
                · refine ew_iload (t := 148) dX4_goes_146 rfl rfl ?_
                  refine ew_ic1 (t := 149) dX4_goes_148 rfl ?_
                  refine ew_icmp_ge (t := 154) (t2 := 152) dX4_goes_149 rfl rfl (fun c_149 => ?_) (fun c_149 => ?_)
                  · refine ew_aload_n (t := 155) dX4_goes_154 rfl rfl rfl ?_
                    refine ew_get (t := 158) (j := 19) (v := .ref 50) fcX4 m33 (Nat.le_of_ble_eq_true rfl) q1040 rfl dX4_goes_155 rfl ?_
                    refine ew_iload_n (t := 159) dX4_goes_158 rfl rfl rfl ?_
                    refine ew_iald (t := 160) (j := v) (N := 7) m50 (vp_in_nI (by omega) (by omega)) (nI_clamp (by omega)) dX4_goes_159 rfl ?_
                    refine ew_iload (t := 162) dX4_goes_160 rfl rfl ?_
                    refine ew_iload (t := 164) dX4_goes_162 rfl rfl ?_
                    refine ew_imul (t := 165) dX4_goes_164 rfl ?_
                    refine ew_iadd (t := 166) dX4_goes_165 rfl ?_
                    refine ew_istore (t := 168) (L' := [some (.ref 33), some (.int (nI v)), some (.int (CD v)), some (.int (TA v)), some (.int ((SA v) + 1)), some (.int (CA (v - 1))), some (.int ((PA (v - 1)) + (-1))), some (.int ((FA v) + (((PA (v - 1)) + (-1)) * ((PA (v - 1)) + (-1))))), none]) dX4_goes_166 (Nat.le_of_ble_eq_true rfl) rfl rfl ?_
                    refine ew_aload_n (t := 169) dX4_goes_168 rfl rfl rfl ?_
                    refine ew_get (t := 172) (j := 14) (v := .ref 45) fcX4 m33 (Nat.le_of_ble_eq_true rfl) q1035 rfl dX4_goes_169 rfl ?_
                    refine ew_iload_n (t := 173) dX4_goes_172 rfl rfl rfl ?_
                    refine ew_iald (t := 174) (j := v) (N := 7) m45 (vp_in_nI (by omega) (by omega)) (nI_clamp (by omega)) dX4_goes_173 rfl ?_
                    rw [hE0]
                    refine ew_iload (t := 176) dX4_goes_174 rfl rfl ?_
                    refine ew_iload (t := 178) dX4_goes_176 rfl rfl ?_
                    refine ew_callS (t := 181) (As := [_, _, _]) (am_gone  _ _ _) (lw_S q1227 q1228 q60 q1229) naX4_gone dX4_goes_178 rfl (Nat.le_of_ble_eq_true rfl) (Nat.le_of_ble_eq_true rfl) (Nat.le_refl _) (Nat.le_refl _) (Nat.le_of_ble_eq_true rfl) rfl (qi ?_)
                    refine ew_istore (t := 183) (L' := [some (.ref 33), some (.int (nI v)), some (.int (CD v)), some (.int (TA v)), some (.int ((SA v) + 1)), some (.int (CA (v - 1))), some (.int ((PA (v - 1)) + (-1))), some (.int ((FA v) + (((PA (v - 1)) + (-1)) * ((PA (v - 1)) + (-1))))), some (.int (goneF (nI b0) (CA (v - 1)) ((PA (v - 1)) + (-1))))]) dX4_goes_181 (Nat.le_of_ble_eq_true rfl) rfl rfl ?_
                    refine ew_iload (t := 185) dX4_goes_183 rfl rfl ?_
                    refine ew_if_lt (t := 206) (t2 := 188) dX4_goes_185 rfl rfl (fun c_185 => ?_) (fun c_185 => ?_)
                    · refine ew_ic0 (t := 207) dX4_goes_206 rfl ?_
                      exact ew_zret rfl (by decide) dX4_goes_207 (Nat.le_refl _) (Nat.le_refl _) (goesQ_1 (CA (v - 1)) ((PA (v - 1)) + (-1)) (TA v) ((SA v) + 1) (by simp only [attI1, chkI, if_pos c_75, if_pos c_116, if_neg c_132, if_neg c_143, if_pos c_149]) (Or.inl c_185))
                    · refine ew_aload_n (t := 189) dX4_goes_188 rfl rfl rfl ?_
                      refine ew_get (t := 192) (j := 24) (v := .int (s 24)) fcX4 m33 (Nat.le_of_ble_eq_true rfl) q1045 rfl dX4_goes_189 rfl ?_
                      refine ew_if_ne (t := 208) (t2 := 195) dX4_goes_192 rfl rfl (fun c_192 => ?_) (fun c_192 => ?_)
                      · obtain ⟨b1, hb1, eb1⟩ := goneF_nn c_185
                        rw [eb1]
                        refine ew_aload_n (t := 209) dX4_goes_208 rfl rfl rfl ?_
                        refine ew_get (t := 212) (j := 15) (v := .ref 46) fcX4 m33 (Nat.le_of_ble_eq_true rfl) q1036 rfl dX4_goes_209 rfl ?_
                        refine ew_iload_n (t := 213) dX4_goes_212 rfl rfl rfl ?_
                        refine ew_iload (t := 215) dX4_goes_213 rfl rfl ?_
                        refine ew_iast (t := 216) (j := v) (N := 7) (h' := (hov h [(46, IA 7 (upd CA v (CA (v - 1))))])) m46 (vp_in_nI (by omega) (by omega)) (nI_clamp (by omega)) dX4_goes_215 (hov_up0) rfl ?_
                        refine ew_aload_n (t := 217) dX4_goes_216 rfl rfl rfl ?_
                        refine ew_get (t := 220) (j := 16) (v := .ref 47) fcX4 m33 (Nat.le_of_ble_eq_true rfl) q1037 rfl dX4_goes_217 rfl ?_
                        refine ew_iload_n (t := 221) dX4_goes_220 rfl rfl rfl ?_
                        refine ew_iload (t := 223) dX4_goes_221 rfl rfl ?_
                        refine ew_iast (t := 224) (j := v) (N := 7) (h' := (hov h [(46, IA 7 (upd CA v (CA (v - 1)))), (47, IA 7 (upd PA v ((PA (v - 1)) + (-1))))])) m47 (vp_in_nI (by omega) (by omega)) (nI_clamp (by omega)) dX4_goes_223 (hov_up rfl) rfl ?_
                        refine ew_aload_n (t := 225) dX4_goes_224 rfl rfl rfl ?_
                        refine ew_get (t := 228) (j := 14) (v := .ref 45) fcX4 m33 (Nat.le_of_ble_eq_true rfl) q1035 rfl dX4_goes_225 rfl ?_
                        refine ew_iload_n (t := 229) dX4_goes_228 rfl rfl rfl ?_
                        refine ew_ic1 (t := 230) dX4_goes_229 rfl ?_
                        refine ew_iadd (t := 231) dX4_goes_230 rfl ?_
                        refine ew_iload (t := 233) dX4_goes_231 rfl rfl ?_
                        refine ew_iast (t := 234) (j := (v + 1)) (N := 7) (h' := (hov h [(46, IA 7 (upd CA v (CA (v - 1)))), (47, IA 7 (upd PA v ((PA (v - 1)) + (-1)))), (45, IA 7 (upd E (v + 1) (nI b1)))])) m45 (by rw [nI_1]; exact vp_in_nI (by omega) (by omega)) (by rw [nI_1]; exact nI_clamp (by omega)) dX4_goes_233 (hov_up rfl) rfl ?_
                        refine ew_aload_n (t := 235) dX4_goes_234 rfl rfl rfl ?_
                        refine ew_get (t := 238) (j := 17) (v := .ref 48) fcX4 m33 (Nat.le_of_ble_eq_true rfl) q1038 rfl dX4_goes_235 rfl ?_
                        refine ew_iload_n (t := 239) dX4_goes_238 rfl rfl rfl ?_
                        refine ew_ic1 (t := 240) dX4_goes_239 rfl ?_
                        refine ew_iadd (t := 241) dX4_goes_240 rfl ?_
                        refine ew_iload_n (t := 242) dX4_goes_241 rfl rfl rfl ?_
                        refine ew_iast (t := 243) (j := (v + 1)) (N := 7) (h' := (hov h [(46, IA 7 (upd CA v (CA (v - 1)))), (47, IA 7 (upd PA v ((PA (v - 1)) + (-1)))), (45, IA 7 (upd E (v + 1) (nI b1))), (48, IA 7 (upd TA (v + 1) (TA v)))])) m48 (by rw [nI_1]; exact vp_in_nI (by omega) (by omega)) (by rw [nI_1]; exact nI_clamp (by omega)) dX4_goes_242 (hov_up rfl) rfl ?_
                        refine ew_aload_n (t := 244) dX4_goes_243 rfl rfl rfl ?_
                        refine ew_get (t := 247) (j := 18) (v := .ref 49) fcX4 m33 (Nat.le_of_ble_eq_true rfl) q1039 rfl dX4_goes_244 rfl ?_
                        refine ew_iload_n (t := 248) dX4_goes_247 rfl rfl rfl ?_
                        refine ew_ic1 (t := 249) dX4_goes_248 rfl ?_
                        refine ew_iadd (t := 250) dX4_goes_249 rfl ?_
                        refine ew_iload (t := 252) dX4_goes_250 rfl rfl ?_
                        refine ew_iast (t := 253) (j := (v + 1)) (N := 7) (h' := (hov h [(46, IA 7 (upd CA v (CA (v - 1)))), (47, IA 7 (upd PA v ((PA (v - 1)) + (-1)))), (45, IA 7 (upd E (v + 1) (nI b1))), (48, IA 7 (upd TA (v + 1) (TA v))), (49, IA 7 (upd SA (v + 1) ((SA v) + 1)))])) m49 (by rw [nI_1]; exact vp_in_nI (by omega) (by omega)) (by rw [nI_1]; exact nI_clamp (by omega)) dX4_goes_252 (hov_up rfl) rfl ?_
                        refine ew_aload_n (t := 254) dX4_goes_253 rfl rfl rfl ?_
                        refine ew_get (t := 257) (j := 19) (v := .ref 50) fcX4 m33 (Nat.le_of_ble_eq_true rfl) q1040 rfl dX4_goes_254 rfl ?_
                        refine ew_iload_n (t := 258) dX4_goes_257 rfl rfl rfl ?_
                        refine ew_ic1 (t := 259) dX4_goes_258 rfl ?_
                        refine ew_iadd (t := 260) dX4_goes_259 rfl ?_
                        refine ew_iload (t := 262) dX4_goes_260 rfl rfl ?_
                        refine ew_iast (t := 263) (j := (v + 1)) (N := 7) (h' := (hov h [(46, IA 7 (upd CA v (CA (v - 1)))), (47, IA 7 (upd PA v ((PA (v - 1)) + (-1)))), (45, IA 7 (upd E (v + 1) (nI b1))), (48, IA 7 (upd TA (v + 1) (TA v))), (49, IA 7 (upd SA (v + 1) ((SA v) + 1))), (50, IA 7 (upd FA (v + 1) ((FA v) + (((PA (v - 1)) + (-1)) * ((PA (v - 1)) + (-1))))))])) m50 (by rw [nI_1]; exact vp_in_nI (by omega) (by omega)) (by rw [nI_1]; exact nI_clamp (by omega)) dX4_goes_262 (hov_up rfl) rfl ?_
                        refine ew_aload_n (t := 264) dX4_goes_263 rfl rfl rfl ?_
                        refine ew_get (t := 267) (j := 20) (v := .ref 51) fcX4 m33 (Nat.le_of_ble_eq_true rfl) q1041 rfl dX4_goes_264 rfl ?_
                        refine ew_iload_n (t := 268) dX4_goes_267 rfl rfl rfl ?_
                        refine ew_ic1 (t := 269) dX4_goes_268 rfl ?_
                        refine ew_iadd (t := 270) dX4_goes_269 rfl ?_
                        refine ew_aload_n (t := 271) dX4_goes_270 rfl rfl rfl ?_
                        refine ew_get (t := 274) (j := 20) (v := .ref 51) fcX4 m33 (Nat.le_of_ble_eq_true rfl) q1041 rfl dX4_goes_271 rfl ?_
                        refine ew_iload_n (t := 275) dX4_goes_274 rfl rfl rfl ?_
                        refine ew_iald (t := 276) (j := v) (N := 7) m51 (vp_in_nI (by omega) (by omega)) (nI_clamp (by omega)) dX4_goes_275 rfl ?_
                        refine ew_aload_n (t := 277) dX4_goes_276 rfl rfl rfl ?_
                        refine ew_iload_n (t := 278) dX4_goes_277 rfl rfl rfl ?_
                        refine ew_ic1 (t := 279) dX4_goes_278 rfl ?_
                        refine ew_iadd (t := 280) dX4_goes_279 rfl ?_
                        rw [nI_1]
                        refine ew_callV (t := 283) (As := [_]) (am_ringed (j := v) (b0 := b0) (b1 := b1) m33 m34 m35 m36 rfl (by omega) hF0 ha (by rw [pk_un (by omega)]; exact hE0) hb0 pk_us hb1) (fcX4).1 m33 (lw_V q1236 q1238 qs37 q60 q1239) rfl naX4_ringed dX4_goes_280 rfl (Nat.le_of_ble_eq_true rfl) (Nat.le_of_ble_eq_true rfl) (Nat.le_refl _) (Nat.le_refl _) (Nat.le_of_ble_eq_true rfl) rfl (qi ?_)
                        refine ew_imul (t := 284) dX4_goes_283 rfl ?_
                        refine ew_iast (t := 285) (j := (v + 1)) (N := 7) (h' := (hov h [(46, IA 7 (upd CA v (CA (v - 1)))), (47, IA 7 (upd PA v ((PA (v - 1)) + (-1)))), (45, IA 7 (upd E (v + 1) (nI b1))), (48, IA 7 (upd TA (v + 1) (TA v))), (49, IA 7 (upd SA (v + 1) ((SA v) + 1))), (50, IA 7 (upd FA (v + 1) ((FA v) + (((PA (v - 1)) + (-1)) * ((PA (v - 1)) + (-1)))))), (51, IA 7 (upd RA (v + 1) ((RA v) * (ringI (s 22) (nI (v + 1)) (s 23) (nI (awayF a b1)) (nI (awayF a b0)) (F36 (v + 1)) (F35 (v + 1))))))])) m51 (vp_in_nI (by omega) (by omega)) (nI_clamp (by omega)) dX4_goes_284 (hov_up rfl) rfl ?_
                        refine ew_aload_n (t := 286) dX4_goes_285 rfl rfl rfl ?_
                        refine ew_get (t := 289) (j := 20) (v := .ref 51) fcX4 m33 (Nat.le_of_ble_eq_true rfl) q1041 rfl dX4_goes_286 rfl ?_
                        refine ew_iload_n (t := 290) dX4_goes_289 rfl rfl rfl ?_
                        refine ew_ic1 (t := 291) dX4_goes_290 rfl ?_
                        refine ew_iadd (t := 292) dX4_goes_291 rfl ?_
                        refine ew_iald (t := 293) (j := (v + 1)) (N := 7) rfl (by rw [nI_1]; exact vp_in_nI (by omega) (by omega)) (by rw [nI_1]; exact nI_clamp (by omega)) dX4_goes_292 rfl ?_
                        rw [pk_us]
                        refine ew_if_le (t := 300) (t2 := 296) dX4_goes_293 rfl rfl (fun c_293 => ?_) (fun c_293 => ?_)
                        · refine ew_ic0 (t := 301) dX4_goes_300 rfl ?_
                          exact ew_zret rfl (by decide) dX4_goes_301 (Nat.le_refl _) (Nat.le_refl _) (goesQ_2 (CA (v - 1)) ((PA (v - 1)) + (-1)) (TA v) ((SA v) + 1) (by simp only [attI1, chkI, if_pos c_75, if_pos c_116, if_neg c_132, if_neg c_143, if_pos c_149]) (fun q => q.elim c_185 (fun q => c_192 q.1)) hb1 eb1 (gp0 c_293))
                        · refine ew_ic1 (t := 297) dX4_goes_296 rfl ?_
                          refine ew_goto (t := 301) dX4_goes_297 rfl ?_
                          exact ew_zret rfl (by decide) dX4_goes_301 (Nat.le_refl _) (Nat.le_refl _) (goesQ_2 (CA (v - 1)) ((PA (v - 1)) + (-1)) (TA v) ((SA v) + 1) (by simp only [attI1, chkI, if_pos c_75, if_pos c_116, if_neg c_132, if_neg c_143, if_pos c_149]) (fun q => q.elim c_185 (fun q => c_192 q.1)) hb1 eb1 (gp1 c_293))
                      · refine ew_iload (t := 197) dX4_goes_195 rfl rfl ?_
                        refine ew_aload_n (t := 198) dX4_goes_197 rfl rfl rfl ?_
                        refine ew_get (t := 201) (j := 0) (v := .ref 34) fcX4 m33 (Nat.le_of_ble_eq_true rfl) q1021 rfl dX4_goes_198 rfl ?_
                        refine ew_ic5 (t := 202) dX4_goes_201 rfl ?_
                        refine ew_iald (t := 203) (j := 5) (N := 8) m34 (vpI (by decide)) (by decide) dX4_goes_202 rfl ?_
                        refine ew_icmp_le (t := 208) (t2 := 206) dX4_goes_203 rfl rfl (fun c_203 => ?_) (fun c_203 => ?_)
                        · obtain ⟨b1, hb1, eb1⟩ := goneF_nn c_185
                          rw [eb1]
                          refine ew_aload_n (t := 209) dX4_goes_208 rfl rfl rfl ?_
                          refine ew_get (t := 212) (j := 15) (v := .ref 46) fcX4 m33 (Nat.le_of_ble_eq_true rfl) q1036 rfl dX4_goes_209 rfl ?_
                          refine ew_iload_n (t := 213) dX4_goes_212 rfl rfl rfl ?_
                          refine ew_iload (t := 215) dX4_goes_213 rfl rfl ?_
                          refine ew_iast (t := 216) (j := v) (N := 7) (h' := (hov h [(46, IA 7 (upd CA v (CA (v - 1))))])) m46 (vp_in_nI (by omega) (by omega)) (nI_clamp (by omega)) dX4_goes_215 (hov_up0) rfl ?_
                          refine ew_aload_n (t := 217) dX4_goes_216 rfl rfl rfl ?_
                          refine ew_get (t := 220) (j := 16) (v := .ref 47) fcX4 m33 (Nat.le_of_ble_eq_true rfl) q1037 rfl dX4_goes_217 rfl ?_
                          refine ew_iload_n (t := 221) dX4_goes_220 rfl rfl rfl ?_
                          refine ew_iload (t := 223) dX4_goes_221 rfl rfl ?_
                          refine ew_iast (t := 224) (j := v) (N := 7) (h' := (hov h [(46, IA 7 (upd CA v (CA (v - 1)))), (47, IA 7 (upd PA v ((PA (v - 1)) + (-1))))])) m47 (vp_in_nI (by omega) (by omega)) (nI_clamp (by omega)) dX4_goes_223 (hov_up rfl) rfl ?_
                          refine ew_aload_n (t := 225) dX4_goes_224 rfl rfl rfl ?_
                          refine ew_get (t := 228) (j := 14) (v := .ref 45) fcX4 m33 (Nat.le_of_ble_eq_true rfl) q1035 rfl dX4_goes_225 rfl ?_
                          refine ew_iload_n (t := 229) dX4_goes_228 rfl rfl rfl ?_
                          refine ew_ic1 (t := 230) dX4_goes_229 rfl ?_
                          refine ew_iadd (t := 231) dX4_goes_230 rfl ?_
                          refine ew_iload (t := 233) dX4_goes_231 rfl rfl ?_
                          refine ew_iast (t := 234) (j := (v + 1)) (N := 7) (h' := (hov h [(46, IA 7 (upd CA v (CA (v - 1)))), (47, IA 7 (upd PA v ((PA (v - 1)) + (-1)))), (45, IA 7 (upd E (v + 1) (nI b1)))])) m45 (by rw [nI_1]; exact vp_in_nI (by omega) (by omega)) (by rw [nI_1]; exact nI_clamp (by omega)) dX4_goes_233 (hov_up rfl) rfl ?_
                          refine ew_aload_n (t := 235) dX4_goes_234 rfl rfl rfl ?_
                          refine ew_get (t := 238) (j := 17) (v := .ref 48) fcX4 m33 (Nat.le_of_ble_eq_true rfl) q1038 rfl dX4_goes_235 rfl ?_
                          refine ew_iload_n (t := 239) dX4_goes_238 rfl rfl rfl ?_
                          refine ew_ic1 (t := 240) dX4_goes_239 rfl ?_
                          refine ew_iadd (t := 241) dX4_goes_240 rfl ?_
                          refine ew_iload_n (t := 242) dX4_goes_241 rfl rfl rfl ?_
                          refine ew_iast (t := 243) (j := (v + 1)) (N := 7) (h' := (hov h [(46, IA 7 (upd CA v (CA (v - 1)))), (47, IA 7 (upd PA v ((PA (v - 1)) + (-1)))), (45, IA 7 (upd E (v + 1) (nI b1))), (48, IA 7 (upd TA (v + 1) (TA v)))])) m48 (by rw [nI_1]; exact vp_in_nI (by omega) (by omega)) (by rw [nI_1]; exact nI_clamp (by omega)) dX4_goes_242 (hov_up rfl) rfl ?_
                          refine ew_aload_n (t := 244) dX4_goes_243 rfl rfl rfl ?_
                          refine ew_get (t := 247) (j := 18) (v := .ref 49) fcX4 m33 (Nat.le_of_ble_eq_true rfl) q1039 rfl dX4_goes_244 rfl ?_
                          refine ew_iload_n (t := 248) dX4_goes_247 rfl rfl rfl ?_
                          refine ew_ic1 (t := 249) dX4_goes_248 rfl ?_
                          refine ew_iadd (t := 250) dX4_goes_249 rfl ?_
                          refine ew_iload (t := 252) dX4_goes_250 rfl rfl ?_
                          refine ew_iast (t := 253) (j := (v + 1)) (N := 7) (h' := (hov h [(46, IA 7 (upd CA v (CA (v - 1)))), (47, IA 7 (upd PA v ((PA (v - 1)) + (-1)))), (45, IA 7 (upd E (v + 1) (nI b1))), (48, IA 7 (upd TA (v + 1) (TA v))), (49, IA 7 (upd SA (v + 1) ((SA v) + 1)))])) m49 (by rw [nI_1]; exact vp_in_nI (by omega) (by omega)) (by rw [nI_1]; exact nI_clamp (by omega)) dX4_goes_252 (hov_up rfl) rfl ?_
                          refine ew_aload_n (t := 254) dX4_goes_253 rfl rfl rfl ?_
                          refine ew_get (t := 257) (j := 19) (v := .ref 50) fcX4 m33 (Nat.le_of_ble_eq_true rfl) q1040 rfl dX4_goes_254 rfl ?_
                          refine ew_iload_n (t := 258) dX4_goes_257 rfl rfl rfl ?_
                          refine ew_ic1 (t := 259) dX4_goes_258 rfl ?_
                          refine ew_iadd (t := 260) dX4_goes_259 rfl ?_
                          refine ew_iload (t := 262) dX4_goes_260 rfl rfl ?_
                          refine ew_iast (t := 263) (j := (v + 1)) (N := 7) (h' := (hov h [(46, IA 7 (upd CA v (CA (v - 1)))), (47, IA 7 (upd PA v ((PA (v - 1)) + (-1)))), (45, IA 7 (upd E (v + 1) (nI b1))), (48, IA 7 (upd TA (v + 1) (TA v))), (49, IA 7 (upd SA (v + 1) ((SA v) + 1))), (50, IA 7 (upd FA (v + 1) ((FA v) + (((PA (v - 1)) + (-1)) * ((PA (v - 1)) + (-1))))))])) m50 (by rw [nI_1]; exact vp_in_nI (by omega) (by omega)) (by rw [nI_1]; exact nI_clamp (by omega)) dX4_goes_262 (hov_up rfl) rfl ?_
                          refine ew_aload_n (t := 264) dX4_goes_263 rfl rfl rfl ?_
                          refine ew_get (t := 267) (j := 20) (v := .ref 51) fcX4 m33 (Nat.le_of_ble_eq_true rfl) q1041 rfl dX4_goes_264 rfl ?_
                          refine ew_iload_n (t := 268) dX4_goes_267 rfl rfl rfl ?_
                          refine ew_ic1 (t := 269) dX4_goes_268 rfl ?_
                          refine ew_iadd (t := 270) dX4_goes_269 rfl ?_
                          refine ew_aload_n (t := 271) dX4_goes_270 rfl rfl rfl ?_
                          refine ew_get (t := 274) (j := 20) (v := .ref 51) fcX4 m33 (Nat.le_of_ble_eq_true rfl) q1041 rfl dX4_goes_271 rfl ?_
                          refine ew_iload_n (t := 275) dX4_goes_274 rfl rfl rfl ?_
                          refine ew_iald (t := 276) (j := v) (N := 7) m51 (vp_in_nI (by omega) (by omega)) (nI_clamp (by omega)) dX4_goes_275 rfl ?_
                          refine ew_aload_n (t := 277) dX4_goes_276 rfl rfl rfl ?_
                          refine ew_iload_n (t := 278) dX4_goes_277 rfl rfl rfl ?_
                          refine ew_ic1 (t := 279) dX4_goes_278 rfl ?_
                          refine ew_iadd (t := 280) dX4_goes_279 rfl ?_
                          rw [nI_1]
                          refine ew_callV (t := 283) (As := [_]) (am_ringed (j := v) (b0 := b0) (b1 := b1) m33 m34 m35 m36 rfl (by omega) hF0 ha (by rw [pk_un (by omega)]; exact hE0) hb0 pk_us hb1) (fcX4).1 m33 (lw_V q1236 q1238 qs37 q60 q1239) rfl naX4_ringed dX4_goes_280 rfl (Nat.le_of_ble_eq_true rfl) (Nat.le_of_ble_eq_true rfl) (Nat.le_refl _) (Nat.le_refl _) (Nat.le_of_ble_eq_true rfl) rfl (qi ?_)
                          refine ew_imul (t := 284) dX4_goes_283 rfl ?_
                          refine ew_iast (t := 285) (j := (v + 1)) (N := 7) (h' := (hov h [(46, IA 7 (upd CA v (CA (v - 1)))), (47, IA 7 (upd PA v ((PA (v - 1)) + (-1)))), (45, IA 7 (upd E (v + 1) (nI b1))), (48, IA 7 (upd TA (v + 1) (TA v))), (49, IA 7 (upd SA (v + 1) ((SA v) + 1))), (50, IA 7 (upd FA (v + 1) ((FA v) + (((PA (v - 1)) + (-1)) * ((PA (v - 1)) + (-1)))))), (51, IA 7 (upd RA (v + 1) ((RA v) * (ringI (s 22) (nI (v + 1)) (s 23) (nI (awayF a b1)) (nI (awayF a b0)) (F36 (v + 1)) (F35 (v + 1))))))])) m51 (vp_in_nI (by omega) (by omega)) (nI_clamp (by omega)) dX4_goes_284 (hov_up rfl) rfl ?_
                          refine ew_aload_n (t := 286) dX4_goes_285 rfl rfl rfl ?_
                          refine ew_get (t := 289) (j := 20) (v := .ref 51) fcX4 m33 (Nat.le_of_ble_eq_true rfl) q1041 rfl dX4_goes_286 rfl ?_
                          refine ew_iload_n (t := 290) dX4_goes_289 rfl rfl rfl ?_
                          refine ew_ic1 (t := 291) dX4_goes_290 rfl ?_
                          refine ew_iadd (t := 292) dX4_goes_291 rfl ?_
                          refine ew_iald (t := 293) (j := (v + 1)) (N := 7) rfl (by rw [nI_1]; exact vp_in_nI (by omega) (by omega)) (by rw [nI_1]; exact nI_clamp (by omega)) dX4_goes_292 rfl ?_
                          rw [pk_us]
                          refine ew_if_le (t := 300) (t2 := 296) dX4_goes_293 rfl rfl (fun c_293 => ?_) (fun c_293 => ?_)
                          · refine ew_ic0 (t := 301) dX4_goes_300 rfl ?_
                            exact ew_zret rfl (by decide) dX4_goes_301 (Nat.le_refl _) (Nat.le_refl _) (goesQ_2 (CA (v - 1)) ((PA (v - 1)) + (-1)) (TA v) ((SA v) + 1) (by simp only [attI1, chkI, if_pos c_75, if_pos c_116, if_neg c_132, if_neg c_143, if_pos c_149]) (fun q => q.elim c_185 (fun q => q.2 c_203)) hb1 eb1 (gp0 c_293))
                          · refine ew_ic1 (t := 297) dX4_goes_296 rfl ?_
                            refine ew_goto (t := 301) dX4_goes_297 rfl ?_
                            exact ew_zret rfl (by decide) dX4_goes_301 (Nat.le_refl _) (Nat.le_refl _) (goesQ_2 (CA (v - 1)) ((PA (v - 1)) + (-1)) (TA v) ((SA v) + 1) (by simp only [attI1, chkI, if_pos c_75, if_pos c_116, if_neg c_132, if_neg c_143, if_pos c_149]) (fun q => q.elim c_185 (fun q => q.2 c_203)) hb1 eb1 (gp1 c_293))
                        · refine ew_ic0 (t := 207) dX4_goes_206 rfl ?_
                          exact ew_zret rfl (by decide) dX4_goes_207 (Nat.le_refl _) (Nat.le_refl _) (goesQ_1 (CA (v - 1)) ((PA (v - 1)) + (-1)) (TA v) ((SA v) + 1) (by simp only [attI1, chkI, if_pos c_75, if_pos c_116, if_neg c_132, if_neg c_143, if_pos c_149]) (Or.inr ⟨c_192, c_203⟩))
                  · refine ew_ic0 (t := 153) dX4_goes_152 rfl ?_
                    exact ew_zret rfl (by decide) dX4_goes_153 (Nat.le_refl _) (Nat.le_refl _) (goesQ_0 (by simp only [attI1, chkI, if_pos c_75, if_pos c_116, if_neg c_132, if_neg c_143, if_neg c_149]))
          · exact absurd c_87 (by decide)
        · refine ew_ic1 (t := 79) dX4_goes_78 rfl ?_
          refine ew_goto (t := 83) dX4_goes_79 rfl ?_
          refine ew_istore (t := 85) (L' := [some (.ref 33), some (.int (nI v)), some (.int (CD v)), some (.int (TA v)), some (.int (SA v)), some (.int (CA (v - 1))), some (.int (PA (v - 1))), some (.int 1), none]) dX4_goes_83 (Nat.le_of_ble_eq_true rfl) rfl rfl ?_
          refine ew_iload (t := 87) dX4_goes_85 rfl rfl ?_
          refine ew_if_eq (t := 112) (t2 := 90) dX4_goes_87 rfl rfl (fun c_87 => ?_) (fun c_87 => ?_)
          · exact absurd c_87 (by decide)
          · refine ew_iload_n (t := 91) dX4_goes_90 rfl rfl rfl ?_
            refine ew_ic2 (t := 92) dX4_goes_91 rfl ?_
            refine ew_idiv (t := 93) dX4_goes_92 (by decide) rfl ?_
            refine ew_ic1 (t := 94) dX4_goes_93 rfl ?_
            refine ew_isub (t := 95) dX4_goes_94 rfl ?_
            refine ew_iload (t := 97) dX4_goes_95 rfl rfl ?_
            refine ew_icmp_ne (t := 102) (t2 := 100) dX4_goes_97 rfl rfl (fun c_97 => ?_) (fun c_97 => ?_)
            · refine ew_iload_n (t := 103) dX4_goes_102 rfl rfl rfl ?_
              refine ew_ic2 (t := 104) dX4_goes_103 rfl ?_
              refine ew_idiv (t := 105) dX4_goes_104 (by decide) rfl ?_
              refine ew_ic1 (t := 106) dX4_goes_105 rfl ?_
              refine ew_isub (t := 107) dX4_goes_106 rfl ?_
              refine ew_istore (t := 109) (L' := [some (.ref 33), some (.int (nI v)), some (.int (CD v)), some (.int (TA v)), some (.int (SA v)), some (.int (((CD v) / 2) - 1)), some (.int (PA (v - 1))), some (.int 1), none]) dX4_goes_107 (Nat.le_of_ble_eq_true rfl) rfl rfl ?_
              refine ew_iinc (t := 112) (x := (TA v)) (v := ((TA v) + 1)) (L' := [some (.ref 33), some (.int (nI v)), some (.int (CD v)), some (.int ((TA v) + 1)), some (.int (SA v)), some (.int (((CD v) / 2) - 1)), some (.int (PA (v - 1))), some (.int 1), none]) dX4_goes_109 rfl rfl (Nat.le_of_ble_eq_true rfl) rfl rfl ?_
              refine ew_iload_n (t := 113) dX4_goes_112 rfl rfl rfl ?_
              refine ew_ic2 (t := 114) dX4_goes_113 rfl ?_
              refine ew_irem (t := 115) dX4_goes_114 (by decide) rfl ?_
              refine ew_ic1 (t := 116) dX4_goes_115 rfl ?_
              refine ew_icmp_ne (t := 125) (t2 := 119) dX4_goes_116 rfl rfl (fun c_116 => ?_) (fun c_116 => ?_)
              · refine ew_iload_n (t := 126) dX4_goes_125 rfl rfl rfl ?_
                refine ew_aload_n (t := 127) dX4_goes_126 rfl rfl rfl ?_
                refine ew_get (t := 130) (j := 0) (v := .ref 34) fcX4 m33 (Nat.le_of_ble_eq_true rfl) q1021 rfl dX4_goes_127 rfl ?_
                refine ew_ic3 (t := 131) dX4_goes_130 rfl ?_
                refine ew_iald (t := 132) (j := 3) (N := 8) m34 (vpI (by decide)) (by decide) dX4_goes_131 rfl ?_
                refine ew_icmp_gt (t := 152) (t2 := 135) dX4_goes_132 rfl rfl (fun c_132 => ?_) (fun c_132 => ?_)
                · refine ew_ic0 (t := 153) dX4_goes_152 rfl ?_
                  exact ew_zret rfl (by decide) dX4_goes_153 (Nat.le_refl _) (Nat.le_refl _) (goesQ_0 (by simp only [attI1, chkI, if_neg c_75, if_neg c_97, if_neg c_116, if_pos c_132]))
                · refine ew_iload (t := 137) dX4_goes_135 rfl rfl ?_
                  refine ew_aload_n (t := 138) dX4_goes_137 rfl rfl rfl ?_
                  refine ew_get (t := 141) (j := 0) (v := .ref 34) fcX4 m33 (Nat.le_of_ble_eq_true rfl) q1021 rfl dX4_goes_138 rfl ?_
                  refine ew_ic4 (t := 142) dX4_goes_141 rfl ?_
                  refine ew_iald (t := 143) (j := 4) (N := 8) m34 (vpI (by decide)) (by decide) dX4_goes_142 rfl ?_
                  refine ew_icmp_gt (t := 152) (t2 := 146) dX4_goes_143 rfl rfl (fun c_143 => ?_) (fun c_143 => ?_)
                  · refine ew_ic0 (t := 153) dX4_goes_152 rfl ?_
                    exact ew_zret rfl (by decide) dX4_goes_153 (Nat.le_refl _) (Nat.le_refl _) (goesQ_0 (by simp only [attI1, chkI, if_neg c_75, if_neg c_97, if_neg c_116, if_neg c_132, if_pos c_143]))
                  · refine ew_iload (t := 148) dX4_goes_146 rfl rfl ?_
                    refine ew_ic1 (t := 149) dX4_goes_148 rfl ?_
                    refine ew_icmp_ge (t := 154) (t2 := 152) dX4_goes_149 rfl rfl (fun c_149 => ?_) (fun c_149 => ?_)
                    · refine ew_aload_n (t := 155) dX4_goes_154 rfl rfl rfl ?_
                      refine ew_get (t := 158) (j := 19) (v := .ref 50) fcX4 m33 (Nat.le_of_ble_eq_true rfl) q1040 rfl dX4_goes_155 rfl ?_
                      refine ew_iload_n (t := 159) dX4_goes_158 rfl rfl rfl ?_
                      refine ew_iald (t := 160) (j := v) (N := 7) m50 (vp_in_nI (by omega) (by omega)) (nI_clamp (by omega)) dX4_goes_159 rfl ?_
                      refine ew_iload (t := 162) dX4_goes_160 rfl rfl ?_
                      refine ew_iload (t := 164) dX4_goes_162 rfl rfl ?_
                      refine ew_imul (t := 165) dX4_goes_164 rfl ?_
                      refine ew_iadd (t := 166) dX4_goes_165 rfl ?_
                      refine ew_istore (t := 168) (L' := [some (.ref 33), some (.int (nI v)), some (.int (CD v)), some (.int ((TA v) + 1)), some (.int (SA v)), some (.int (((CD v) / 2) - 1)), some (.int (PA (v - 1))), some (.int ((FA v) + ((PA (v - 1)) * (PA (v - 1))))), none]) dX4_goes_166 (Nat.le_of_ble_eq_true rfl) rfl rfl ?_
                      refine ew_aload_n (t := 169) dX4_goes_168 rfl rfl rfl ?_
                      refine ew_get (t := 172) (j := 14) (v := .ref 45) fcX4 m33 (Nat.le_of_ble_eq_true rfl) q1035 rfl dX4_goes_169 rfl ?_
                      refine ew_iload_n (t := 173) dX4_goes_172 rfl rfl rfl ?_
                      refine ew_iald (t := 174) (j := v) (N := 7) m45 (vp_in_nI (by omega) (by omega)) (nI_clamp (by omega)) dX4_goes_173 rfl ?_
                      rw [hE0]
                      refine ew_iload (t := 176) dX4_goes_174 rfl rfl ?_
                      refine ew_iload (t := 178) dX4_goes_176 rfl rfl ?_
                      refine ew_callS (t := 181) (As := [_, _, _]) (am_gone  _ _ _) (lw_S q1227 q1228 q60 q1229) naX4_gone dX4_goes_178 rfl (Nat.le_of_ble_eq_true rfl) (Nat.le_of_ble_eq_true rfl) (Nat.le_refl _) (Nat.le_refl _) (Nat.le_of_ble_eq_true rfl) rfl (qi ?_)
                      refine ew_istore (t := 183) (L' := [some (.ref 33), some (.int (nI v)), some (.int (CD v)), some (.int ((TA v) + 1)), some (.int (SA v)), some (.int (((CD v) / 2) - 1)), some (.int (PA (v - 1))), some (.int ((FA v) + ((PA (v - 1)) * (PA (v - 1))))), some (.int (goneF (nI b0) (((CD v) / 2) - 1) (PA (v - 1))))]) dX4_goes_181 (Nat.le_of_ble_eq_true rfl) rfl rfl ?_
                      refine ew_iload (t := 185) dX4_goes_183 rfl rfl ?_
                      refine ew_if_lt (t := 206) (t2 := 188) dX4_goes_185 rfl rfl (fun c_185 => ?_) (fun c_185 => ?_)
                      · refine ew_ic0 (t := 207) dX4_goes_206 rfl ?_
                        exact ew_zret rfl (by decide) dX4_goes_207 (Nat.le_refl _) (Nat.le_refl _) (goesQ_1 (((CD v) / 2) - 1) (PA (v - 1)) ((TA v) + 1) (SA v) (by simp only [attI1, chkI, if_neg c_75, if_neg c_97, if_neg c_116, if_neg c_132, if_neg c_143, if_pos c_149]) (Or.inl c_185))
                      · refine ew_aload_n (t := 189) dX4_goes_188 rfl rfl rfl ?_
                        refine ew_get (t := 192) (j := 24) (v := .int (s 24)) fcX4 m33 (Nat.le_of_ble_eq_true rfl) q1045 rfl dX4_goes_189 rfl ?_
                        refine ew_if_ne (t := 208) (t2 := 195) dX4_goes_192 rfl rfl (fun c_192 => ?_) (fun c_192 => ?_)
                        · obtain ⟨b1, hb1, eb1⟩ := goneF_nn c_185
                          rw [eb1]
                          refine ew_aload_n (t := 209) dX4_goes_208 rfl rfl rfl ?_
                          refine ew_get (t := 212) (j := 15) (v := .ref 46) fcX4 m33 (Nat.le_of_ble_eq_true rfl) q1036 rfl dX4_goes_209 rfl ?_
                          refine ew_iload_n (t := 213) dX4_goes_212 rfl rfl rfl ?_
                          refine ew_iload (t := 215) dX4_goes_213 rfl rfl ?_
                          refine ew_iast (t := 216) (j := v) (N := 7) (h' := (hov h [(46, IA 7 (upd CA v (((CD v) / 2) - 1)))])) m46 (vp_in_nI (by omega) (by omega)) (nI_clamp (by omega)) dX4_goes_215 (hov_up0) rfl ?_
                          refine ew_aload_n (t := 217) dX4_goes_216 rfl rfl rfl ?_
                          refine ew_get (t := 220) (j := 16) (v := .ref 47) fcX4 m33 (Nat.le_of_ble_eq_true rfl) q1037 rfl dX4_goes_217 rfl ?_
                          refine ew_iload_n (t := 221) dX4_goes_220 rfl rfl rfl ?_
                          refine ew_iload (t := 223) dX4_goes_221 rfl rfl ?_
                          refine ew_iast (t := 224) (j := v) (N := 7) (h' := (hov h [(46, IA 7 (upd CA v (((CD v) / 2) - 1))), (47, IA 7 (upd PA v (PA (v - 1))))])) m47 (vp_in_nI (by omega) (by omega)) (nI_clamp (by omega)) dX4_goes_223 (hov_up rfl) rfl ?_
                          refine ew_aload_n (t := 225) dX4_goes_224 rfl rfl rfl ?_
                          refine ew_get (t := 228) (j := 14) (v := .ref 45) fcX4 m33 (Nat.le_of_ble_eq_true rfl) q1035 rfl dX4_goes_225 rfl ?_
                          refine ew_iload_n (t := 229) dX4_goes_228 rfl rfl rfl ?_
                          refine ew_ic1 (t := 230) dX4_goes_229 rfl ?_
                          refine ew_iadd (t := 231) dX4_goes_230 rfl ?_
                          refine ew_iload (t := 233) dX4_goes_231 rfl rfl ?_
                          refine ew_iast (t := 234) (j := (v + 1)) (N := 7) (h' := (hov h [(46, IA 7 (upd CA v (((CD v) / 2) - 1))), (47, IA 7 (upd PA v (PA (v - 1)))), (45, IA 7 (upd E (v + 1) (nI b1)))])) m45 (by rw [nI_1]; exact vp_in_nI (by omega) (by omega)) (by rw [nI_1]; exact nI_clamp (by omega)) dX4_goes_233 (hov_up rfl) rfl ?_
                          refine ew_aload_n (t := 235) dX4_goes_234 rfl rfl rfl ?_
                          refine ew_get (t := 238) (j := 17) (v := .ref 48) fcX4 m33 (Nat.le_of_ble_eq_true rfl) q1038 rfl dX4_goes_235 rfl ?_
                          refine ew_iload_n (t := 239) dX4_goes_238 rfl rfl rfl ?_
                          refine ew_ic1 (t := 240) dX4_goes_239 rfl ?_
                          refine ew_iadd (t := 241) dX4_goes_240 rfl ?_
                          refine ew_iload_n (t := 242) dX4_goes_241 rfl rfl rfl ?_
                          refine ew_iast (t := 243) (j := (v + 1)) (N := 7) (h' := (hov h [(46, IA 7 (upd CA v (((CD v) / 2) - 1))), (47, IA 7 (upd PA v (PA (v - 1)))), (45, IA 7 (upd E (v + 1) (nI b1))), (48, IA 7 (upd TA (v + 1) ((TA v) + 1)))])) m48 (by rw [nI_1]; exact vp_in_nI (by omega) (by omega)) (by rw [nI_1]; exact nI_clamp (by omega)) dX4_goes_242 (hov_up rfl) rfl ?_
                          refine ew_aload_n (t := 244) dX4_goes_243 rfl rfl rfl ?_
                          refine ew_get (t := 247) (j := 18) (v := .ref 49) fcX4 m33 (Nat.le_of_ble_eq_true rfl) q1039 rfl dX4_goes_244 rfl ?_
                          refine ew_iload_n (t := 248) dX4_goes_247 rfl rfl rfl ?_
                          refine ew_ic1 (t := 249) dX4_goes_248 rfl ?_
                          refine ew_iadd (t := 250) dX4_goes_249 rfl ?_
                          refine ew_iload (t := 252) dX4_goes_250 rfl rfl ?_
                          refine ew_iast (t := 253) (j := (v + 1)) (N := 7) (h' := (hov h [(46, IA 7 (upd CA v (((CD v) / 2) - 1))), (47, IA 7 (upd PA v (PA (v - 1)))), (45, IA 7 (upd E (v + 1) (nI b1))), (48, IA 7 (upd TA (v + 1) ((TA v) + 1))), (49, IA 7 (upd SA (v + 1) (SA v)))])) m49 (by rw [nI_1]; exact vp_in_nI (by omega) (by omega)) (by rw [nI_1]; exact nI_clamp (by omega)) dX4_goes_252 (hov_up rfl) rfl ?_
                          refine ew_aload_n (t := 254) dX4_goes_253 rfl rfl rfl ?_
                          refine ew_get (t := 257) (j := 19) (v := .ref 50) fcX4 m33 (Nat.le_of_ble_eq_true rfl) q1040 rfl dX4_goes_254 rfl ?_
                          refine ew_iload_n (t := 258) dX4_goes_257 rfl rfl rfl ?_
                          refine ew_ic1 (t := 259) dX4_goes_258 rfl ?_
                          refine ew_iadd (t := 260) dX4_goes_259 rfl ?_
                          refine ew_iload (t := 262) dX4_goes_260 rfl rfl ?_
                          refine ew_iast (t := 263) (j := (v + 1)) (N := 7) (h' := (hov h [(46, IA 7 (upd CA v (((CD v) / 2) - 1))), (47, IA 7 (upd PA v (PA (v - 1)))), (45, IA 7 (upd E (v + 1) (nI b1))), (48, IA 7 (upd TA (v + 1) ((TA v) + 1))), (49, IA 7 (upd SA (v + 1) (SA v))), (50, IA 7 (upd FA (v + 1) ((FA v) + ((PA (v - 1)) * (PA (v - 1))))))])) m50 (by rw [nI_1]; exact vp_in_nI (by omega) (by omega)) (by rw [nI_1]; exact nI_clamp (by omega)) dX4_goes_262 (hov_up rfl) rfl ?_
                          refine ew_aload_n (t := 264) dX4_goes_263 rfl rfl rfl ?_
                          refine ew_get (t := 267) (j := 20) (v := .ref 51) fcX4 m33 (Nat.le_of_ble_eq_true rfl) q1041 rfl dX4_goes_264 rfl ?_
                          refine ew_iload_n (t := 268) dX4_goes_267 rfl rfl rfl ?_
                          refine ew_ic1 (t := 269) dX4_goes_268 rfl ?_
                          refine ew_iadd (t := 270) dX4_goes_269 rfl ?_
                          refine ew_aload_n (t := 271) dX4_goes_270 rfl rfl rfl ?_
                          refine ew_get (t := 274) (j := 20) (v := .ref 51) fcX4 m33 (Nat.le_of_ble_eq_true rfl) q1041 rfl dX4_goes_271 rfl ?_
                          refine ew_iload_n (t := 275) dX4_goes_274 rfl rfl rfl ?_
                          refine ew_iald (t := 276) (j := v) (N := 7) m51 (vp_in_nI (by omega) (by omega)) (nI_clamp (by omega)) dX4_goes_275 rfl ?_
                          refine ew_aload_n (t := 277) dX4_goes_276 rfl rfl rfl ?_
                          refine ew_iload_n (t := 278) dX4_goes_277 rfl rfl rfl ?_
                          refine ew_ic1 (t := 279) dX4_goes_278 rfl ?_
                          refine ew_iadd (t := 280) dX4_goes_279 rfl ?_
                          rw [nI_1]
                          refine ew_callV (t := 283) (As := [_]) (am_ringed (j := v) (b0 := b0) (b1 := b1) m33 m34 m35 m36 rfl (by omega) hF0 ha (by rw [pk_un (by omega)]; exact hE0) hb0 pk_us hb1) (fcX4).1 m33 (lw_V q1236 q1238 qs37 q60 q1239) rfl naX4_ringed dX4_goes_280 rfl (Nat.le_of_ble_eq_true rfl) (Nat.le_of_ble_eq_true rfl) (Nat.le_refl _) (Nat.le_refl _) (Nat.le_of_ble_eq_true rfl) rfl (qi ?_)
                          refine ew_imul (t := 284) dX4_goes_283 rfl ?_
                          refine ew_iast (t := 285) (j := (v + 1)) (N := 7) (h' := (hov h [(46, IA 7 (upd CA v (((CD v) / 2) - 1))), (47, IA 7 (upd PA v (PA (v - 1)))), (45, IA 7 (upd E (v + 1) (nI b1))), (48, IA 7 (upd TA (v + 1) ((TA v) + 1))), (49, IA 7 (upd SA (v + 1) (SA v))), (50, IA 7 (upd FA (v + 1) ((FA v) + ((PA (v - 1)) * (PA (v - 1)))))), (51, IA 7 (upd RA (v + 1) ((RA v) * (ringI (s 22) (nI (v + 1)) (s 23) (nI (awayF a b1)) (nI (awayF a b0)) (F36 (v + 1)) (F35 (v + 1))))))])) m51 (vp_in_nI (by omega) (by omega)) (nI_clamp (by omega)) dX4_goes_284 (hov_up rfl) rfl ?_
                          refine ew_aload_n (t := 286) dX4_goes_285 rfl rfl rfl ?_
                          refine ew_get (t := 289) (j := 20) (v := .ref 51) fcX4 m33 (Nat.le_of_ble_eq_true rfl) q1041 rfl dX4_goes_286 rfl ?_
                          refine ew_iload_n (t := 290) dX4_goes_289 rfl rfl rfl ?_
                          refine ew_ic1 (t := 291) dX4_goes_290 rfl ?_
                          refine ew_iadd (t := 292) dX4_goes_291 rfl ?_
                          refine ew_iald (t := 293) (j := (v + 1)) (N := 7) rfl (by rw [nI_1]; exact vp_in_nI (by omega) (by omega)) (by rw [nI_1]; exact nI_clamp (by omega)) dX4_goes_292 rfl ?_
                          rw [pk_us]
                          refine ew_if_le (t := 300) (t2 := 296) dX4_goes_293 rfl rfl (fun c_293 => ?_) (fun c_293 => ?_)
                          · refine ew_ic0 (t := 301) dX4_goes_300 rfl ?_
                            exact ew_zret rfl (by decide) dX4_goes_301 (Nat.le_refl _) (Nat.le_refl _) (goesQ_2 (((CD v) / 2) - 1) (PA (v - 1)) ((TA v) + 1) (SA v) (by simp only [attI1, chkI, if_neg c_75, if_neg c_97, if_neg c_116, if_neg c_132, if_neg c_143, if_pos c_149]) (fun q => q.elim c_185 (fun q => c_192 q.1)) hb1 eb1 (gp0 c_293))
                          · refine ew_ic1 (t := 297) dX4_goes_296 rfl ?_
                            refine ew_goto (t := 301) dX4_goes_297 rfl ?_
                            exact ew_zret rfl (by decide) dX4_goes_301 (Nat.le_refl _) (Nat.le_refl _) (goesQ_2 (((CD v) / 2) - 1) (PA (v - 1)) ((TA v) + 1) (SA v) (by simp only [attI1, chkI, if_neg c_75, if_neg c_97, if_neg c_116, if_neg c_132, if_neg c_143, if_pos c_149]) (fun q => q.elim c_185 (fun q => c_192 q.1)) hb1 eb1 (gp1 c_293))
                        · refine ew_iload (t := 197) dX4_goes_195 rfl rfl ?_
                          refine ew_aload_n (t := 198) dX4_goes_197 rfl rfl rfl ?_
                          refine ew_get (t := 201) (j := 0) (v := .ref 34) fcX4 m33 (Nat.le_of_ble_eq_true rfl) q1021 rfl dX4_goes_198 rfl ?_
                          refine ew_ic5 (t := 202) dX4_goes_201 rfl ?_
                          refine ew_iald (t := 203) (j := 5) (N := 8) m34 (vpI (by decide)) (by decide) dX4_goes_202 rfl ?_
                          refine ew_icmp_le (t := 208) (t2 := 206) dX4_goes_203 rfl rfl (fun c_203 => ?_) (fun c_203 => ?_)
                          · obtain ⟨b1, hb1, eb1⟩ := goneF_nn c_185
                            rw [eb1]
                            refine ew_aload_n (t := 209) dX4_goes_208 rfl rfl rfl ?_
                            refine ew_get (t := 212) (j := 15) (v := .ref 46) fcX4 m33 (Nat.le_of_ble_eq_true rfl) q1036 rfl dX4_goes_209 rfl ?_
                            refine ew_iload_n (t := 213) dX4_goes_212 rfl rfl rfl ?_
                            refine ew_iload (t := 215) dX4_goes_213 rfl rfl ?_
                            refine ew_iast (t := 216) (j := v) (N := 7) (h' := (hov h [(46, IA 7 (upd CA v (((CD v) / 2) - 1)))])) m46 (vp_in_nI (by omega) (by omega)) (nI_clamp (by omega)) dX4_goes_215 (hov_up0) rfl ?_
                            refine ew_aload_n (t := 217) dX4_goes_216 rfl rfl rfl ?_
                            refine ew_get (t := 220) (j := 16) (v := .ref 47) fcX4 m33 (Nat.le_of_ble_eq_true rfl) q1037 rfl dX4_goes_217 rfl ?_
                            refine ew_iload_n (t := 221) dX4_goes_220 rfl rfl rfl ?_
                            refine ew_iload (t := 223) dX4_goes_221 rfl rfl ?_
                            refine ew_iast (t := 224) (j := v) (N := 7) (h' := (hov h [(46, IA 7 (upd CA v (((CD v) / 2) - 1))), (47, IA 7 (upd PA v (PA (v - 1))))])) m47 (vp_in_nI (by omega) (by omega)) (nI_clamp (by omega)) dX4_goes_223 (hov_up rfl) rfl ?_
                            refine ew_aload_n (t := 225) dX4_goes_224 rfl rfl rfl ?_
                            refine ew_get (t := 228) (j := 14) (v := .ref 45) fcX4 m33 (Nat.le_of_ble_eq_true rfl) q1035 rfl dX4_goes_225 rfl ?_
                            refine ew_iload_n (t := 229) dX4_goes_228 rfl rfl rfl ?_
                            refine ew_ic1 (t := 230) dX4_goes_229 rfl ?_
                            refine ew_iadd (t := 231) dX4_goes_230 rfl ?_
                            refine ew_iload (t := 233) dX4_goes_231 rfl rfl ?_
                            refine ew_iast (t := 234) (j := (v + 1)) (N := 7) (h' := (hov h [(46, IA 7 (upd CA v (((CD v) / 2) - 1))), (47, IA 7 (upd PA v (PA (v - 1)))), (45, IA 7 (upd E (v + 1) (nI b1)))])) m45 (by rw [nI_1]; exact vp_in_nI (by omega) (by omega)) (by rw [nI_1]; exact nI_clamp (by omega)) dX4_goes_233 (hov_up rfl) rfl ?_
                            refine ew_aload_n (t := 235) dX4_goes_234 rfl rfl rfl ?_
                            refine ew_get (t := 238) (j := 17) (v := .ref 48) fcX4 m33 (Nat.le_of_ble_eq_true rfl) q1038 rfl dX4_goes_235 rfl ?_
                            refine ew_iload_n (t := 239) dX4_goes_238 rfl rfl rfl ?_
                            refine ew_ic1 (t := 240) dX4_goes_239 rfl ?_
                            refine ew_iadd (t := 241) dX4_goes_240 rfl ?_
                            refine ew_iload_n (t := 242) dX4_goes_241 rfl rfl rfl ?_
                            refine ew_iast (t := 243) (j := (v + 1)) (N := 7) (h' := (hov h [(46, IA 7 (upd CA v (((CD v) / 2) - 1))), (47, IA 7 (upd PA v (PA (v - 1)))), (45, IA 7 (upd E (v + 1) (nI b1))), (48, IA 7 (upd TA (v + 1) ((TA v) + 1)))])) m48 (by rw [nI_1]; exact vp_in_nI (by omega) (by omega)) (by rw [nI_1]; exact nI_clamp (by omega)) dX4_goes_242 (hov_up rfl) rfl ?_
                            refine ew_aload_n (t := 244) dX4_goes_243 rfl rfl rfl ?_
                            refine ew_get (t := 247) (j := 18) (v := .ref 49) fcX4 m33 (Nat.le_of_ble_eq_true rfl) q1039 rfl dX4_goes_244 rfl ?_
                            refine ew_iload_n (t := 248) dX4_goes_247 rfl rfl rfl ?_
                            refine ew_ic1 (t := 249) dX4_goes_248 rfl ?_
                            refine ew_iadd (t := 250) dX4_goes_249 rfl ?_
                            refine ew_iload (t := 252) dX4_goes_250 rfl rfl ?_
                            refine ew_iast (t := 253) (j := (v + 1)) (N := 7) (h' := (hov h [(46, IA 7 (upd CA v (((CD v) / 2) - 1))), (47, IA 7 (upd PA v (PA (v - 1)))), (45, IA 7 (upd E (v + 1) (nI b1))), (48, IA 7 (upd TA (v + 1) ((TA v) + 1))), (49, IA 7 (upd SA (v + 1) (SA v)))])) m49 (by rw [nI_1]; exact vp_in_nI (by omega) (by omega)) (by rw [nI_1]; exact nI_clamp (by omega)) dX4_goes_252 (hov_up rfl) rfl ?_
                            refine ew_aload_n (t := 254) dX4_goes_253 rfl rfl rfl ?_
                            refine ew_get (t := 257) (j := 19) (v := .ref 50) fcX4 m33 (Nat.le_of_ble_eq_true rfl) q1040 rfl dX4_goes_254 rfl ?_
                            refine ew_iload_n (t := 258) dX4_goes_257 rfl rfl rfl ?_
                            refine ew_ic1 (t := 259) dX4_goes_258 rfl ?_
                            refine ew_iadd (t := 260) dX4_goes_259 rfl ?_
                            refine ew_iload (t := 262) dX4_goes_260 rfl rfl ?_
                            refine ew_iast (t := 263) (j := (v + 1)) (N := 7) (h' := (hov h [(46, IA 7 (upd CA v (((CD v) / 2) - 1))), (47, IA 7 (upd PA v (PA (v - 1)))), (45, IA 7 (upd E (v + 1) (nI b1))), (48, IA 7 (upd TA (v + 1) ((TA v) + 1))), (49, IA 7 (upd SA (v + 1) (SA v))), (50, IA 7 (upd FA (v + 1) ((FA v) + ((PA (v - 1)) * (PA (v - 1))))))])) m50 (by rw [nI_1]; exact vp_in_nI (by omega) (by omega)) (by rw [nI_1]; exact nI_clamp (by omega)) dX4_goes_262 (hov_up rfl) rfl ?_
                            refine ew_aload_n (t := 264) dX4_goes_263 rfl rfl rfl ?_
                            refine ew_get (t := 267) (j := 20) (v := .ref 51) fcX4 m33 (Nat.le_of_ble_eq_true rfl) q1041 rfl dX4_goes_264 rfl ?_
                            refine ew_iload_n (t := 268) dX4_goes_267 rfl rfl rfl ?_
                            refine ew_ic1 (t := 269) dX4_goes_268 rfl ?_
                            refine ew_iadd (t := 270) dX4_goes_269 rfl ?_
                            refine ew_aload_n (t := 271) dX4_goes_270 rfl rfl rfl ?_
                            refine ew_get (t := 274) (j := 20) (v := .ref 51) fcX4 m33 (Nat.le_of_ble_eq_true rfl) q1041 rfl dX4_goes_271 rfl ?_
                            refine ew_iload_n (t := 275) dX4_goes_274 rfl rfl rfl ?_
                            refine ew_iald (t := 276) (j := v) (N := 7) m51 (vp_in_nI (by omega) (by omega)) (nI_clamp (by omega)) dX4_goes_275 rfl ?_
                            refine ew_aload_n (t := 277) dX4_goes_276 rfl rfl rfl ?_
                            refine ew_iload_n (t := 278) dX4_goes_277 rfl rfl rfl ?_
                            refine ew_ic1 (t := 279) dX4_goes_278 rfl ?_
                            refine ew_iadd (t := 280) dX4_goes_279 rfl ?_
                            rw [nI_1]
                            refine ew_callV (t := 283) (As := [_]) (am_ringed (j := v) (b0 := b0) (b1 := b1) m33 m34 m35 m36 rfl (by omega) hF0 ha (by rw [pk_un (by omega)]; exact hE0) hb0 pk_us hb1) (fcX4).1 m33 (lw_V q1236 q1238 qs37 q60 q1239) rfl naX4_ringed dX4_goes_280 rfl (Nat.le_of_ble_eq_true rfl) (Nat.le_of_ble_eq_true rfl) (Nat.le_refl _) (Nat.le_refl _) (Nat.le_of_ble_eq_true rfl) rfl (qi ?_)
                            refine ew_imul (t := 284) dX4_goes_283 rfl ?_
                            refine ew_iast (t := 285) (j := (v + 1)) (N := 7) (h' := (hov h [(46, IA 7 (upd CA v (((CD v) / 2) - 1))), (47, IA 7 (upd PA v (PA (v - 1)))), (45, IA 7 (upd E (v + 1) (nI b1))), (48, IA 7 (upd TA (v + 1) ((TA v) + 1))), (49, IA 7 (upd SA (v + 1) (SA v))), (50, IA 7 (upd FA (v + 1) ((FA v) + ((PA (v - 1)) * (PA (v - 1)))))), (51, IA 7 (upd RA (v + 1) ((RA v) * (ringI (s 22) (nI (v + 1)) (s 23) (nI (awayF a b1)) (nI (awayF a b0)) (F36 (v + 1)) (F35 (v + 1))))))])) m51 (vp_in_nI (by omega) (by omega)) (nI_clamp (by omega)) dX4_goes_284 (hov_up rfl) rfl ?_
                            refine ew_aload_n (t := 286) dX4_goes_285 rfl rfl rfl ?_
                            refine ew_get (t := 289) (j := 20) (v := .ref 51) fcX4 m33 (Nat.le_of_ble_eq_true rfl) q1041 rfl dX4_goes_286 rfl ?_
                            refine ew_iload_n (t := 290) dX4_goes_289 rfl rfl rfl ?_
                            refine ew_ic1 (t := 291) dX4_goes_290 rfl ?_
                            refine ew_iadd (t := 292) dX4_goes_291 rfl ?_
                            refine ew_iald (t := 293) (j := (v + 1)) (N := 7) rfl (by rw [nI_1]; exact vp_in_nI (by omega) (by omega)) (by rw [nI_1]; exact nI_clamp (by omega)) dX4_goes_292 rfl ?_
                            rw [pk_us]
                            refine ew_if_le (t := 300) (t2 := 296) dX4_goes_293 rfl rfl (fun c_293 => ?_) (fun c_293 => ?_)
                            · refine ew_ic0 (t := 301) dX4_goes_300 rfl ?_
                              exact ew_zret rfl (by decide) dX4_goes_301 (Nat.le_refl _) (Nat.le_refl _) (goesQ_2 (((CD v) / 2) - 1) (PA (v - 1)) ((TA v) + 1) (SA v) (by simp only [attI1, chkI, if_neg c_75, if_neg c_97, if_neg c_116, if_neg c_132, if_neg c_143, if_pos c_149]) (fun q => q.elim c_185 (fun q => q.2 c_203)) hb1 eb1 (gp0 c_293))
                            · refine ew_ic1 (t := 297) dX4_goes_296 rfl ?_
                              refine ew_goto (t := 301) dX4_goes_297 rfl ?_
                              exact ew_zret rfl (by decide) dX4_goes_301 (Nat.le_refl _) (Nat.le_refl _) (goesQ_2 (((CD v) / 2) - 1) (PA (v - 1)) ((TA v) + 1) (SA v) (by simp only [attI1, chkI, if_neg c_75, if_neg c_97, if_neg c_116, if_neg c_132, if_neg c_143, if_pos c_149]) (fun q => q.elim c_185 (fun q => q.2 c_203)) hb1 eb1 (gp1 c_293))
                          · refine ew_ic0 (t := 207) dX4_goes_206 rfl ?_
                            exact ew_zret rfl (by decide) dX4_goes_207 (Nat.le_refl _) (Nat.le_refl _) (goesQ_1 (((CD v) / 2) - 1) (PA (v - 1)) ((TA v) + 1) (SA v) (by simp only [attI1, chkI, if_neg c_75, if_neg c_97, if_neg c_116, if_neg c_132, if_neg c_143, if_pos c_149]) (Or.inr ⟨c_192, c_203⟩))
                    · refine ew_ic0 (t := 153) dX4_goes_152 rfl ?_
                      exact ew_zret rfl (by decide) dX4_goes_153 (Nat.le_refl _) (Nat.le_refl _) (goesQ_0 (by simp only [attI1, chkI, if_neg c_75, if_neg c_97, if_neg c_116, if_neg c_132, if_neg c_143, if_neg c_149]))
              · refine ew_iinc (t := 122) (x := (SA v)) (v := ((SA v) + 1)) (L' := [some (.ref 33), some (.int (nI v)), some (.int (CD v)), some (.int ((TA v) + 1)), some (.int ((SA v) + 1)), some (.int (((CD v) / 2) - 1)), some (.int (PA (v - 1))), some (.int 1), none]) dX4_goes_119 rfl rfl (Nat.le_of_ble_eq_true rfl) rfl rfl ?_
                refine ew_iinc (t := 125) (x := (PA (v - 1))) (v := ((PA (v - 1)) + (-1))) (L' := [some (.ref 33), some (.int (nI v)), some (.int (CD v)), some (.int ((TA v) + 1)), some (.int ((SA v) + 1)), some (.int (((CD v) / 2) - 1)), some (.int ((PA (v - 1)) + (-1))), some (.int 1), none]) dX4_goes_122 rfl rfl (Nat.le_of_ble_eq_true rfl) rfl rfl ?_
                refine ew_iload_n (t := 126) dX4_goes_125 rfl rfl rfl ?_
                refine ew_aload_n (t := 127) dX4_goes_126 rfl rfl rfl ?_
                refine ew_get (t := 130) (j := 0) (v := .ref 34) fcX4 m33 (Nat.le_of_ble_eq_true rfl) q1021 rfl dX4_goes_127 rfl ?_
                refine ew_ic3 (t := 131) dX4_goes_130 rfl ?_
                refine ew_iald (t := 132) (j := 3) (N := 8) m34 (vpI (by decide)) (by decide) dX4_goes_131 rfl ?_
                refine ew_icmp_gt (t := 152) (t2 := 135) dX4_goes_132 rfl rfl (fun c_132 => ?_) (fun c_132 => ?_)
                · refine ew_ic0 (t := 153) dX4_goes_152 rfl ?_
                  exact ew_zret rfl (by decide) dX4_goes_153 (Nat.le_refl _) (Nat.le_refl _) (goesQ_0 (by simp only [attI1, chkI, if_neg c_75, if_neg c_97, if_pos c_116, if_pos c_132]))
                · refine ew_iload (t := 137) dX4_goes_135 rfl rfl ?_
                  refine ew_aload_n (t := 138) dX4_goes_137 rfl rfl rfl ?_
                  refine ew_get (t := 141) (j := 0) (v := .ref 34) fcX4 m33 (Nat.le_of_ble_eq_true rfl) q1021 rfl dX4_goes_138 rfl ?_
                  refine ew_ic4 (t := 142) dX4_goes_141 rfl ?_
                  refine ew_iald (t := 143) (j := 4) (N := 8) m34 (vpI (by decide)) (by decide) dX4_goes_142 rfl ?_
                  refine ew_icmp_gt (t := 152) (t2 := 146) dX4_goes_143 rfl rfl (fun c_143 => ?_) (fun c_143 => ?_)
                  · refine ew_ic0 (t := 153) dX4_goes_152 rfl ?_
                    exact ew_zret rfl (by decide) dX4_goes_153 (Nat.le_refl _) (Nat.le_refl _) (goesQ_0 (by simp only [attI1, chkI, if_neg c_75, if_neg c_97, if_pos c_116, if_neg c_132, if_pos c_143]))
                  · refine ew_iload (t := 148) dX4_goes_146 rfl rfl ?_
                    refine ew_ic1 (t := 149) dX4_goes_148 rfl ?_
                    refine ew_icmp_ge (t := 154) (t2 := 152) dX4_goes_149 rfl rfl (fun c_149 => ?_) (fun c_149 => ?_)
                    · refine ew_aload_n (t := 155) dX4_goes_154 rfl rfl rfl ?_
                      refine ew_get (t := 158) (j := 19) (v := .ref 50) fcX4 m33 (Nat.le_of_ble_eq_true rfl) q1040 rfl dX4_goes_155 rfl ?_
                      refine ew_iload_n (t := 159) dX4_goes_158 rfl rfl rfl ?_
                      refine ew_iald (t := 160) (j := v) (N := 7) m50 (vp_in_nI (by omega) (by omega)) (nI_clamp (by omega)) dX4_goes_159 rfl ?_
                      refine ew_iload (t := 162) dX4_goes_160 rfl rfl ?_
                      refine ew_iload (t := 164) dX4_goes_162 rfl rfl ?_
                      refine ew_imul (t := 165) dX4_goes_164 rfl ?_
                      refine ew_iadd (t := 166) dX4_goes_165 rfl ?_
                      refine ew_istore (t := 168) (L' := [some (.ref 33), some (.int (nI v)), some (.int (CD v)), some (.int ((TA v) + 1)), some (.int ((SA v) + 1)), some (.int (((CD v) / 2) - 1)), some (.int ((PA (v - 1)) + (-1))), some (.int ((FA v) + (((PA (v - 1)) + (-1)) * ((PA (v - 1)) + (-1))))), none]) dX4_goes_166 (Nat.le_of_ble_eq_true rfl) rfl rfl ?_
                      refine ew_aload_n (t := 169) dX4_goes_168 rfl rfl rfl ?_
                      refine ew_get (t := 172) (j := 14) (v := .ref 45) fcX4 m33 (Nat.le_of_ble_eq_true rfl) q1035 rfl dX4_goes_169 rfl ?_
                      refine ew_iload_n (t := 173) dX4_goes_172 rfl rfl rfl ?_
                      refine ew_iald (t := 174) (j := v) (N := 7) m45 (vp_in_nI (by omega) (by omega)) (nI_clamp (by omega)) dX4_goes_173 rfl ?_
                      rw [hE0]
                      refine ew_iload (t := 176) dX4_goes_174 rfl rfl ?_
                      refine ew_iload (t := 178) dX4_goes_176 rfl rfl ?_
                      refine ew_callS (t := 181) (As := [_, _, _]) (am_gone  _ _ _) (lw_S q1227 q1228 q60 q1229) naX4_gone dX4_goes_178 rfl (Nat.le_of_ble_eq_true rfl) (Nat.le_of_ble_eq_true rfl) (Nat.le_refl _) (Nat.le_refl _) (Nat.le_of_ble_eq_true rfl) rfl (qi ?_)
                      refine ew_istore (t := 183) (L' := [some (.ref 33), some (.int (nI v)), some (.int (CD v)), some (.int ((TA v) + 1)), some (.int ((SA v) + 1)), some (.int (((CD v) / 2) - 1)), some (.int ((PA (v - 1)) + (-1))), some (.int ((FA v) + (((PA (v - 1)) + (-1)) * ((PA (v - 1)) + (-1))))), some (.int (goneF (nI b0) (((CD v) / 2) - 1) ((PA (v - 1)) + (-1))))]) dX4_goes_181 (Nat.le_of_ble_eq_true rfl) rfl rfl ?_
                      refine ew_iload (t := 185) dX4_goes_183 rfl rfl ?_
                      refine ew_if_lt (t := 206) (t2 := 188) dX4_goes_185 rfl rfl (fun c_185 => ?_) (fun c_185 => ?_)
                      · refine ew_ic0 (t := 207) dX4_goes_206 rfl ?_
                        exact ew_zret rfl (by decide) dX4_goes_207 (Nat.le_refl _) (Nat.le_refl _) (goesQ_1 (((CD v) / 2) - 1) ((PA (v - 1)) + (-1)) ((TA v) + 1) ((SA v) + 1) (by simp only [attI1, chkI, if_neg c_75, if_neg c_97, if_pos c_116, if_neg c_132, if_neg c_143, if_pos c_149]) (Or.inl c_185))
                      · refine ew_aload_n (t := 189) dX4_goes_188 rfl rfl rfl ?_
                        refine ew_get (t := 192) (j := 24) (v := .int (s 24)) fcX4 m33 (Nat.le_of_ble_eq_true rfl) q1045 rfl dX4_goes_189 rfl ?_
                        refine ew_if_ne (t := 208) (t2 := 195) dX4_goes_192 rfl rfl (fun c_192 => ?_) (fun c_192 => ?_)
                        · obtain ⟨b1, hb1, eb1⟩ := goneF_nn c_185
                          rw [eb1]
                          refine ew_aload_n (t := 209) dX4_goes_208 rfl rfl rfl ?_
                          refine ew_get (t := 212) (j := 15) (v := .ref 46) fcX4 m33 (Nat.le_of_ble_eq_true rfl) q1036 rfl dX4_goes_209 rfl ?_
                          refine ew_iload_n (t := 213) dX4_goes_212 rfl rfl rfl ?_
                          refine ew_iload (t := 215) dX4_goes_213 rfl rfl ?_
                          refine ew_iast (t := 216) (j := v) (N := 7) (h' := (hov h [(46, IA 7 (upd CA v (((CD v) / 2) - 1)))])) m46 (vp_in_nI (by omega) (by omega)) (nI_clamp (by omega)) dX4_goes_215 (hov_up0) rfl ?_
                          refine ew_aload_n (t := 217) dX4_goes_216 rfl rfl rfl ?_
                          refine ew_get (t := 220) (j := 16) (v := .ref 47) fcX4 m33 (Nat.le_of_ble_eq_true rfl) q1037 rfl dX4_goes_217 rfl ?_
                          refine ew_iload_n (t := 221) dX4_goes_220 rfl rfl rfl ?_
                          refine ew_iload (t := 223) dX4_goes_221 rfl rfl ?_
                          refine ew_iast (t := 224) (j := v) (N := 7) (h' := (hov h [(46, IA 7 (upd CA v (((CD v) / 2) - 1))), (47, IA 7 (upd PA v ((PA (v - 1)) + (-1))))])) m47 (vp_in_nI (by omega) (by omega)) (nI_clamp (by omega)) dX4_goes_223 (hov_up rfl) rfl ?_
                          refine ew_aload_n (t := 225) dX4_goes_224 rfl rfl rfl ?_
                          refine ew_get (t := 228) (j := 14) (v := .ref 45) fcX4 m33 (Nat.le_of_ble_eq_true rfl) q1035 rfl dX4_goes_225 rfl ?_
                          refine ew_iload_n (t := 229) dX4_goes_228 rfl rfl rfl ?_
                          refine ew_ic1 (t := 230) dX4_goes_229 rfl ?_
                          refine ew_iadd (t := 231) dX4_goes_230 rfl ?_
                          refine ew_iload (t := 233) dX4_goes_231 rfl rfl ?_
                          refine ew_iast (t := 234) (j := (v + 1)) (N := 7) (h' := (hov h [(46, IA 7 (upd CA v (((CD v) / 2) - 1))), (47, IA 7 (upd PA v ((PA (v - 1)) + (-1)))), (45, IA 7 (upd E (v + 1) (nI b1)))])) m45 (by rw [nI_1]; exact vp_in_nI (by omega) (by omega)) (by rw [nI_1]; exact nI_clamp (by omega)) dX4_goes_233 (hov_up rfl) rfl ?_
                          refine ew_aload_n (t := 235) dX4_goes_234 rfl rfl rfl ?_
                          refine ew_get (t := 238) (j := 17) (v := .ref 48) fcX4 m33 (Nat.le_of_ble_eq_true rfl) q1038 rfl dX4_goes_235 rfl ?_
                          refine ew_iload_n (t := 239) dX4_goes_238 rfl rfl rfl ?_
                          refine ew_ic1 (t := 240) dX4_goes_239 rfl ?_
                          refine ew_iadd (t := 241) dX4_goes_240 rfl ?_
                          refine ew_iload_n (t := 242) dX4_goes_241 rfl rfl rfl ?_
                          refine ew_iast (t := 243) (j := (v + 1)) (N := 7) (h' := (hov h [(46, IA 7 (upd CA v (((CD v) / 2) - 1))), (47, IA 7 (upd PA v ((PA (v - 1)) + (-1)))), (45, IA 7 (upd E (v + 1) (nI b1))), (48, IA 7 (upd TA (v + 1) ((TA v) + 1)))])) m48 (by rw [nI_1]; exact vp_in_nI (by omega) (by omega)) (by rw [nI_1]; exact nI_clamp (by omega)) dX4_goes_242 (hov_up rfl) rfl ?_
                          refine ew_aload_n (t := 244) dX4_goes_243 rfl rfl rfl ?_
                          refine ew_get (t := 247) (j := 18) (v := .ref 49) fcX4 m33 (Nat.le_of_ble_eq_true rfl) q1039 rfl dX4_goes_244 rfl ?_
                          refine ew_iload_n (t := 248) dX4_goes_247 rfl rfl rfl ?_
                          refine ew_ic1 (t := 249) dX4_goes_248 rfl ?_
                          refine ew_iadd (t := 250) dX4_goes_249 rfl ?_
                          refine ew_iload (t := 252) dX4_goes_250 rfl rfl ?_
                          refine ew_iast (t := 253) (j := (v + 1)) (N := 7) (h' := (hov h [(46, IA 7 (upd CA v (((CD v) / 2) - 1))), (47, IA 7 (upd PA v ((PA (v - 1)) + (-1)))), (45, IA 7 (upd E (v + 1) (nI b1))), (48, IA 7 (upd TA (v + 1) ((TA v) + 1))), (49, IA 7 (upd SA (v + 1) ((SA v) + 1)))])) m49 (by rw [nI_1]; exact vp_in_nI (by omega) (by omega)) (by rw [nI_1]; exact nI_clamp (by omega)) dX4_goes_252 (hov_up rfl) rfl ?_
                          refine ew_aload_n (t := 254) dX4_goes_253 rfl rfl rfl ?_
                          refine ew_get (t := 257) (j := 19) (v := .ref 50) fcX4 m33 (Nat.le_of_ble_eq_true rfl) q1040 rfl dX4_goes_254 rfl ?_
                          refine ew_iload_n (t := 258) dX4_goes_257 rfl rfl rfl ?_
                          refine ew_ic1 (t := 259) dX4_goes_258 rfl ?_
                          refine ew_iadd (t := 260) dX4_goes_259 rfl ?_
                          refine ew_iload (t := 262) dX4_goes_260 rfl rfl ?_
                          refine ew_iast (t := 263) (j := (v + 1)) (N := 7) (h' := (hov h [(46, IA 7 (upd CA v (((CD v) / 2) - 1))), (47, IA 7 (upd PA v ((PA (v - 1)) + (-1)))), (45, IA 7 (upd E (v + 1) (nI b1))), (48, IA 7 (upd TA (v + 1) ((TA v) + 1))), (49, IA 7 (upd SA (v + 1) ((SA v) + 1))), (50, IA 7 (upd FA (v + 1) ((FA v) + (((PA (v - 1)) + (-1)) * ((PA (v - 1)) + (-1))))))])) m50 (by rw [nI_1]; exact vp_in_nI (by omega) (by omega)) (by rw [nI_1]; exact nI_clamp (by omega)) dX4_goes_262 (hov_up rfl) rfl ?_
                          refine ew_aload_n (t := 264) dX4_goes_263 rfl rfl rfl ?_
                          refine ew_get (t := 267) (j := 20) (v := .ref 51) fcX4 m33 (Nat.le_of_ble_eq_true rfl) q1041 rfl dX4_goes_264 rfl ?_
                          refine ew_iload_n (t := 268) dX4_goes_267 rfl rfl rfl ?_
                          refine ew_ic1 (t := 269) dX4_goes_268 rfl ?_
                          refine ew_iadd (t := 270) dX4_goes_269 rfl ?_
                          refine ew_aload_n (t := 271) dX4_goes_270 rfl rfl rfl ?_
                          refine ew_get (t := 274) (j := 20) (v := .ref 51) fcX4 m33 (Nat.le_of_ble_eq_true rfl) q1041 rfl dX4_goes_271 rfl ?_
                          refine ew_iload_n (t := 275) dX4_goes_274 rfl rfl rfl ?_
                          refine ew_iald (t := 276) (j := v) (N := 7) m51 (vp_in_nI (by omega) (by omega)) (nI_clamp (by omega)) dX4_goes_275 rfl ?_
                          refine ew_aload_n (t := 277) dX4_goes_276 rfl rfl rfl ?_
                          refine ew_iload_n (t := 278) dX4_goes_277 rfl rfl rfl ?_
                          refine ew_ic1 (t := 279) dX4_goes_278 rfl ?_
                          refine ew_iadd (t := 280) dX4_goes_279 rfl ?_
                          rw [nI_1]
                          refine ew_callV (t := 283) (As := [_]) (am_ringed (j := v) (b0 := b0) (b1 := b1) m33 m34 m35 m36 rfl (by omega) hF0 ha (by rw [pk_un (by omega)]; exact hE0) hb0 pk_us hb1) (fcX4).1 m33 (lw_V q1236 q1238 qs37 q60 q1239) rfl naX4_ringed dX4_goes_280 rfl (Nat.le_of_ble_eq_true rfl) (Nat.le_of_ble_eq_true rfl) (Nat.le_refl _) (Nat.le_refl _) (Nat.le_of_ble_eq_true rfl) rfl (qi ?_)
                          refine ew_imul (t := 284) dX4_goes_283 rfl ?_
                          refine ew_iast (t := 285) (j := (v + 1)) (N := 7) (h' := (hov h [(46, IA 7 (upd CA v (((CD v) / 2) - 1))), (47, IA 7 (upd PA v ((PA (v - 1)) + (-1)))), (45, IA 7 (upd E (v + 1) (nI b1))), (48, IA 7 (upd TA (v + 1) ((TA v) + 1))), (49, IA 7 (upd SA (v + 1) ((SA v) + 1))), (50, IA 7 (upd FA (v + 1) ((FA v) + (((PA (v - 1)) + (-1)) * ((PA (v - 1)) + (-1)))))), (51, IA 7 (upd RA (v + 1) ((RA v) * (ringI (s 22) (nI (v + 1)) (s 23) (nI (awayF a b1)) (nI (awayF a b0)) (F36 (v + 1)) (F35 (v + 1))))))])) m51 (vp_in_nI (by omega) (by omega)) (nI_clamp (by omega)) dX4_goes_284 (hov_up rfl) rfl ?_
                          refine ew_aload_n (t := 286) dX4_goes_285 rfl rfl rfl ?_
                          refine ew_get (t := 289) (j := 20) (v := .ref 51) fcX4 m33 (Nat.le_of_ble_eq_true rfl) q1041 rfl dX4_goes_286 rfl ?_
                          refine ew_iload_n (t := 290) dX4_goes_289 rfl rfl rfl ?_
                          refine ew_ic1 (t := 291) dX4_goes_290 rfl ?_
                          refine ew_iadd (t := 292) dX4_goes_291 rfl ?_
                          refine ew_iald (t := 293) (j := (v + 1)) (N := 7) rfl (by rw [nI_1]; exact vp_in_nI (by omega) (by omega)) (by rw [nI_1]; exact nI_clamp (by omega)) dX4_goes_292 rfl ?_
                          rw [pk_us]
                          refine ew_if_le (t := 300) (t2 := 296) dX4_goes_293 rfl rfl (fun c_293 => ?_) (fun c_293 => ?_)
                          · refine ew_ic0 (t := 301) dX4_goes_300 rfl ?_
                            exact ew_zret rfl (by decide) dX4_goes_301 (Nat.le_refl _) (Nat.le_refl _) (goesQ_2 (((CD v) / 2) - 1) ((PA (v - 1)) + (-1)) ((TA v) + 1) ((SA v) + 1) (by simp only [attI1, chkI, if_neg c_75, if_neg c_97, if_pos c_116, if_neg c_132, if_neg c_143, if_pos c_149]) (fun q => q.elim c_185 (fun q => c_192 q.1)) hb1 eb1 (gp0 c_293))
                          · refine ew_ic1 (t := 297) dX4_goes_296 rfl ?_
                            refine ew_goto (t := 301) dX4_goes_297 rfl ?_
                            exact ew_zret rfl (by decide) dX4_goes_301 (Nat.le_refl _) (Nat.le_refl _) (goesQ_2 (((CD v) / 2) - 1) ((PA (v - 1)) + (-1)) ((TA v) + 1) ((SA v) + 1) (by simp only [attI1, chkI, if_neg c_75, if_neg c_97, if_pos c_116, if_neg c_132, if_neg c_143, if_pos c_149]) (fun q => q.elim c_185 (fun q => c_192 q.1)) hb1 eb1 (gp1 c_293))
                        · refine ew_iload (t := 197) dX4_goes_195 rfl rfl ?_
                          refine ew_aload_n (t := 198) dX4_goes_197 rfl rfl rfl ?_
                          refine ew_get (t := 201) (j := 0) (v := .ref 34) fcX4 m33 (Nat.le_of_ble_eq_true rfl) q1021 rfl dX4_goes_198 rfl ?_
                          refine ew_ic5 (t := 202) dX4_goes_201 rfl ?_
                          refine ew_iald (t := 203) (j := 5) (N := 8) m34 (vpI (by decide)) (by decide) dX4_goes_202 rfl ?_
                          refine ew_icmp_le (t := 208) (t2 := 206) dX4_goes_203 rfl rfl (fun c_203 => ?_) (fun c_203 => ?_)
                          · obtain ⟨b1, hb1, eb1⟩ := goneF_nn c_185
                            rw [eb1]
                            refine ew_aload_n (t := 209) dX4_goes_208 rfl rfl rfl ?_
                            refine ew_get (t := 212) (j := 15) (v := .ref 46) fcX4 m33 (Nat.le_of_ble_eq_true rfl) q1036 rfl dX4_goes_209 rfl ?_
                            refine ew_iload_n (t := 213) dX4_goes_212 rfl rfl rfl ?_
                            refine ew_iload (t := 215) dX4_goes_213 rfl rfl ?_
                            refine ew_iast (t := 216) (j := v) (N := 7) (h' := (hov h [(46, IA 7 (upd CA v (((CD v) / 2) - 1)))])) m46 (vp_in_nI (by omega) (by omega)) (nI_clamp (by omega)) dX4_goes_215 (hov_up0) rfl ?_
                            refine ew_aload_n (t := 217) dX4_goes_216 rfl rfl rfl ?_
                            refine ew_get (t := 220) (j := 16) (v := .ref 47) fcX4 m33 (Nat.le_of_ble_eq_true rfl) q1037 rfl dX4_goes_217 rfl ?_
                            refine ew_iload_n (t := 221) dX4_goes_220 rfl rfl rfl ?_
                            refine ew_iload (t := 223) dX4_goes_221 rfl rfl ?_
                            refine ew_iast (t := 224) (j := v) (N := 7) (h' := (hov h [(46, IA 7 (upd CA v (((CD v) / 2) - 1))), (47, IA 7 (upd PA v ((PA (v - 1)) + (-1))))])) m47 (vp_in_nI (by omega) (by omega)) (nI_clamp (by omega)) dX4_goes_223 (hov_up rfl) rfl ?_
                            refine ew_aload_n (t := 225) dX4_goes_224 rfl rfl rfl ?_
                            refine ew_get (t := 228) (j := 14) (v := .ref 45) fcX4 m33 (Nat.le_of_ble_eq_true rfl) q1035 rfl dX4_goes_225 rfl ?_
                            refine ew_iload_n (t := 229) dX4_goes_228 rfl rfl rfl ?_
                            refine ew_ic1 (t := 230) dX4_goes_229 rfl ?_
                            refine ew_iadd (t := 231) dX4_goes_230 rfl ?_
                            refine ew_iload (t := 233) dX4_goes_231 rfl rfl ?_
                            refine ew_iast (t := 234) (j := (v + 1)) (N := 7) (h' := (hov h [(46, IA 7 (upd CA v (((CD v) / 2) - 1))), (47, IA 7 (upd PA v ((PA (v - 1)) + (-1)))), (45, IA 7 (upd E (v + 1) (nI b1)))])) m45 (by rw [nI_1]; exact vp_in_nI (by omega) (by omega)) (by rw [nI_1]; exact nI_clamp (by omega)) dX4_goes_233 (hov_up rfl) rfl ?_
                            refine ew_aload_n (t := 235) dX4_goes_234 rfl rfl rfl ?_
                            refine ew_get (t := 238) (j := 17) (v := .ref 48) fcX4 m33 (Nat.le_of_ble_eq_true rfl) q1038 rfl dX4_goes_235 rfl ?_
                            refine ew_iload_n (t := 239) dX4_goes_238 rfl rfl rfl ?_
                            refine ew_ic1 (t := 240) dX4_goes_239 rfl ?_
                            refine ew_iadd (t := 241) dX4_goes_240 rfl ?_
                            refine ew_iload_n (t := 242) dX4_goes_241 rfl rfl rfl ?_
                            refine ew_iast (t := 243) (j := (v + 1)) (N := 7) (h' := (hov h [(46, IA 7 (upd CA v (((CD v) / 2) - 1))), (47, IA 7 (upd PA v ((PA (v - 1)) + (-1)))), (45, IA 7 (upd E (v + 1) (nI b1))), (48, IA 7 (upd TA (v + 1) ((TA v) + 1)))])) m48 (by rw [nI_1]; exact vp_in_nI (by omega) (by omega)) (by rw [nI_1]; exact nI_clamp (by omega)) dX4_goes_242 (hov_up rfl) rfl ?_
                            refine ew_aload_n (t := 244) dX4_goes_243 rfl rfl rfl ?_
                            refine ew_get (t := 247) (j := 18) (v := .ref 49) fcX4 m33 (Nat.le_of_ble_eq_true rfl) q1039 rfl dX4_goes_244 rfl ?_
                            refine ew_iload_n (t := 248) dX4_goes_247 rfl rfl rfl ?_
                            refine ew_ic1 (t := 249) dX4_goes_248 rfl ?_
                            refine ew_iadd (t := 250) dX4_goes_249 rfl ?_
                            refine ew_iload (t := 252) dX4_goes_250 rfl rfl ?_
                            refine ew_iast (t := 253) (j := (v + 1)) (N := 7) (h' := (hov h [(46, IA 7 (upd CA v (((CD v) / 2) - 1))), (47, IA 7 (upd PA v ((PA (v - 1)) + (-1)))), (45, IA 7 (upd E (v + 1) (nI b1))), (48, IA 7 (upd TA (v + 1) ((TA v) + 1))), (49, IA 7 (upd SA (v + 1) ((SA v) + 1)))])) m49 (by rw [nI_1]; exact vp_in_nI (by omega) (by omega)) (by rw [nI_1]; exact nI_clamp (by omega)) dX4_goes_252 (hov_up rfl) rfl ?_
                            refine ew_aload_n (t := 254) dX4_goes_253 rfl rfl rfl ?_
                            refine ew_get (t := 257) (j := 19) (v := .ref 50) fcX4 m33 (Nat.le_of_ble_eq_true rfl) q1040 rfl dX4_goes_254 rfl ?_
                            refine ew_iload_n (t := 258) dX4_goes_257 rfl rfl rfl ?_
                            refine ew_ic1 (t := 259) dX4_goes_258 rfl ?_
                            refine ew_iadd (t := 260) dX4_goes_259 rfl ?_
                            refine ew_iload (t := 262) dX4_goes_260 rfl rfl ?_
                            refine ew_iast (t := 263) (j := (v + 1)) (N := 7) (h' := (hov h [(46, IA 7 (upd CA v (((CD v) / 2) - 1))), (47, IA 7 (upd PA v ((PA (v - 1)) + (-1)))), (45, IA 7 (upd E (v + 1) (nI b1))), (48, IA 7 (upd TA (v + 1) ((TA v) + 1))), (49, IA 7 (upd SA (v + 1) ((SA v) + 1))), (50, IA 7 (upd FA (v + 1) ((FA v) + (((PA (v - 1)) + (-1)) * ((PA (v - 1)) + (-1))))))])) m50 (by rw [nI_1]; exact vp_in_nI (by omega) (by omega)) (by rw [nI_1]; exact nI_clamp (by omega)) dX4_goes_262 (hov_up rfl) rfl ?_
                            refine ew_aload_n (t := 264) dX4_goes_263 rfl rfl rfl ?_
                            refine ew_get (t := 267) (j := 20) (v := .ref 51) fcX4 m33 (Nat.le_of_ble_eq_true rfl) q1041 rfl dX4_goes_264 rfl ?_
                            refine ew_iload_n (t := 268) dX4_goes_267 rfl rfl rfl ?_
                            refine ew_ic1 (t := 269) dX4_goes_268 rfl ?_
                            refine ew_iadd (t := 270) dX4_goes_269 rfl ?_
                            refine ew_aload_n (t := 271) dX4_goes_270 rfl rfl rfl ?_
                            refine ew_get (t := 274) (j := 20) (v := .ref 51) fcX4 m33 (Nat.le_of_ble_eq_true rfl) q1041 rfl dX4_goes_271 rfl ?_
                            refine ew_iload_n (t := 275) dX4_goes_274 rfl rfl rfl ?_
                            refine ew_iald (t := 276) (j := v) (N := 7) m51 (vp_in_nI (by omega) (by omega)) (nI_clamp (by omega)) dX4_goes_275 rfl ?_
                            refine ew_aload_n (t := 277) dX4_goes_276 rfl rfl rfl ?_
                            refine ew_iload_n (t := 278) dX4_goes_277 rfl rfl rfl ?_
                            refine ew_ic1 (t := 279) dX4_goes_278 rfl ?_
                            refine ew_iadd (t := 280) dX4_goes_279 rfl ?_
                            rw [nI_1]
                            refine ew_callV (t := 283) (As := [_]) (am_ringed (j := v) (b0 := b0) (b1 := b1) m33 m34 m35 m36 rfl (by omega) hF0 ha (by rw [pk_un (by omega)]; exact hE0) hb0 pk_us hb1) (fcX4).1 m33 (lw_V q1236 q1238 qs37 q60 q1239) rfl naX4_ringed dX4_goes_280 rfl (Nat.le_of_ble_eq_true rfl) (Nat.le_of_ble_eq_true rfl) (Nat.le_refl _) (Nat.le_refl _) (Nat.le_of_ble_eq_true rfl) rfl (qi ?_)
                            refine ew_imul (t := 284) dX4_goes_283 rfl ?_
                            refine ew_iast (t := 285) (j := (v + 1)) (N := 7) (h' := (hov h [(46, IA 7 (upd CA v (((CD v) / 2) - 1))), (47, IA 7 (upd PA v ((PA (v - 1)) + (-1)))), (45, IA 7 (upd E (v + 1) (nI b1))), (48, IA 7 (upd TA (v + 1) ((TA v) + 1))), (49, IA 7 (upd SA (v + 1) ((SA v) + 1))), (50, IA 7 (upd FA (v + 1) ((FA v) + (((PA (v - 1)) + (-1)) * ((PA (v - 1)) + (-1)))))), (51, IA 7 (upd RA (v + 1) ((RA v) * (ringI (s 22) (nI (v + 1)) (s 23) (nI (awayF a b1)) (nI (awayF a b0)) (F36 (v + 1)) (F35 (v + 1))))))])) m51 (vp_in_nI (by omega) (by omega)) (nI_clamp (by omega)) dX4_goes_284 (hov_up rfl) rfl ?_
                            refine ew_aload_n (t := 286) dX4_goes_285 rfl rfl rfl ?_
                            refine ew_get (t := 289) (j := 20) (v := .ref 51) fcX4 m33 (Nat.le_of_ble_eq_true rfl) q1041 rfl dX4_goes_286 rfl ?_
                            refine ew_iload_n (t := 290) dX4_goes_289 rfl rfl rfl ?_
                            refine ew_ic1 (t := 291) dX4_goes_290 rfl ?_
                            refine ew_iadd (t := 292) dX4_goes_291 rfl ?_
                            refine ew_iald (t := 293) (j := (v + 1)) (N := 7) rfl (by rw [nI_1]; exact vp_in_nI (by omega) (by omega)) (by rw [nI_1]; exact nI_clamp (by omega)) dX4_goes_292 rfl ?_
                            rw [pk_us]
                            refine ew_if_le (t := 300) (t2 := 296) dX4_goes_293 rfl rfl (fun c_293 => ?_) (fun c_293 => ?_)
                            · refine ew_ic0 (t := 301) dX4_goes_300 rfl ?_
                              exact ew_zret rfl (by decide) dX4_goes_301 (Nat.le_refl _) (Nat.le_refl _) (goesQ_2 (((CD v) / 2) - 1) ((PA (v - 1)) + (-1)) ((TA v) + 1) ((SA v) + 1) (by simp only [attI1, chkI, if_neg c_75, if_neg c_97, if_pos c_116, if_neg c_132, if_neg c_143, if_pos c_149]) (fun q => q.elim c_185 (fun q => q.2 c_203)) hb1 eb1 (gp0 c_293))
                            · refine ew_ic1 (t := 297) dX4_goes_296 rfl ?_
                              refine ew_goto (t := 301) dX4_goes_297 rfl ?_
                              exact ew_zret rfl (by decide) dX4_goes_301 (Nat.le_refl _) (Nat.le_refl _) (goesQ_2 (((CD v) / 2) - 1) ((PA (v - 1)) + (-1)) ((TA v) + 1) ((SA v) + 1) (by simp only [attI1, chkI, if_neg c_75, if_neg c_97, if_pos c_116, if_neg c_132, if_neg c_143, if_pos c_149]) (fun q => q.elim c_185 (fun q => q.2 c_203)) hb1 eb1 (gp1 c_293))
                          · refine ew_ic0 (t := 207) dX4_goes_206 rfl ?_
                            exact ew_zret rfl (by decide) dX4_goes_207 (Nat.le_refl _) (Nat.le_refl _) (goesQ_1 (((CD v) / 2) - 1) ((PA (v - 1)) + (-1)) ((TA v) + 1) ((SA v) + 1) (by simp only [attI1, chkI, if_neg c_75, if_neg c_97, if_pos c_116, if_neg c_132, if_neg c_143, if_pos c_149]) (Or.inr ⟨c_192, c_203⟩))
                    · refine ew_ic0 (t := 153) dX4_goes_152 rfl ?_
                      exact ew_zret rfl (by decide) dX4_goes_153 (Nat.le_refl _) (Nat.le_refl _) (goesQ_0 (by simp only [attI1, chkI, if_neg c_75, if_neg c_97, if_pos c_116, if_neg c_132, if_neg c_143, if_neg c_149]))
            · refine ew_ic0 (t := 101) dX4_goes_100 rfl ?_
              exact ew_zret rfl (by decide) dX4_goes_101 (Nat.le_refl _) (Nat.le_refl _) (goesQ_0 (by simp only [attI1, chkI, if_neg c_75, if_pos c_97]))
    · exact absurd c_48 (nI_ne0 (by omega) (by omega))
  · exact absurd c_28 (nI_ne0 (by omega) (by omega))
