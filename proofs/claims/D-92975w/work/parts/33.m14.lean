/-! the reference: ends, pieces and drags -/
set_option maxRecDepth 100000
/-- a cell's sum by so many pieces, by so many drags -/
def mulP (P CU WA : Nat → Int32) (wd noP : Int32) (c : Nat) (x : Int64) : Nat → Int64
  | 0 => x
  | p + 1 => mulP P CU WA wd noP c x p * (if mulP P CU WA wd noP c x p = 0 then 1 else (if ¬ ((noP >>> (nI p &&& 31)) &&& 1) = 1 then (fitF P CU WA wd (5 * p) c).toInt64 else 1))
def mulD (DC DB : Nat → Int32) (c : Nat) (x : Int64) : Nat → Int64
  | 0 => x
  | k + 1 => mulD DC DB c x k * (if ¬ DC k = nI c then 8 else (8 - DB k).toInt64)
def cellV (P CU WA DC DB : Nat → Int32) (wd noP noD : Int32) (np nd c : Nat) (x : Int64) : Int64 := mulD DC DB c (mulP P CU WA wd noP c x np) (if noD = 0 then nd else 0)
/-- the sums and all of them together, the first k cells done -/
def sumsK (P CU WA DC DB : Nat → Int32) (wd noP noD : Int32) (np nd : Nat) (f : Nat → Int64) : Nat → Nat → Int64
  | 0 => f
  | k + 1 => vp_updL (sumsK P CU WA DC DB wd noP noD np nd f k) k (cellV P CU WA DC DB wd noP noD np nd k (sumsK P CU WA DC DB wd noP noD np nd f k k))
def allK (P CU WA DC DB : Nat → Int32) (wd noP noD : Int32) (np nd : Nat) (f : Nat → Int64) : Nat → Int64
  | 0 => 0
  | k + 1 => allK P CU WA DC DB wd noP noD np nd f k + cellV P CU WA DC DB wd noP noD np nd k (sumsK P CU WA DC DB wd noP noD np nd f k k)
set_option maxHeartbeats 4000000 in
theorem lp_ends4 {l : Launch} {G : GW} {h : AH} {n : Nat} {s : Nat → Int32} {F34 CU WA P DC DB : Nat → Int32} {np nd : Nat} (m34 : h 34 = some (IA 8 F34)) (m37 : h 37 = some (IA 200 CU)) (m38 : h 38 = some (IA 200 WA)) (m52 : h 52 = some (IA 20 P)) (m53 : h 53 = some (IA 6 DC)) (m54 : h 54 = some (IA 6 DB)) (hnp : s 25 = nI np) (hnp4 : np ≤ 4) (hnd : s 27 = nI nd) (hnd4 : nd ≤ 4) (hP : ∀ q, q < np → ∃ N, N < 100 ∧ P (5 * q + 1) = nI N) {Q : Option Value → AH → Nat → Prop} {al : Int64} {S : Nat → Int64} {c : Nat} {o3 o4 : Option Value} (hc : c < 100) {x : Int64} (kk : EW l G yX4_ends cX4_ends 5 none 4 0 0 Q 0 0 (hov h [(33, OB 4 (MOf s al)), (55, JA 100 (vp_updL S c (mulP P CU WA (F34 7) (s 32) c x np)))]) n 195 [some (.ref 33), some (.int (nI c)), some (.int (nI np)), o3, o4] []) : ∀ (f k : Nat), k + f = np → EW l G yX4_ends cX4_ends 5 none 4 0 0 Q 0 0 (hov h [(33, OB 4 (MOf s al)), (55, JA 100 (vp_updL S c (mulP P CU WA (F34 7) (s 32) c x k)))]) n 138 [some (.ref 33), some (.int (nI c)), some (.int (nI k)), o3, o4] [] := by
  intro f
  induction f with
  | zero =>
    intro k  hk
    refine ew_iload_n (t := 139) dX4_ends_138 rfl rfl rfl ?_
    refine ew_aload_n (t := 140) dX4_ends_139 rfl rfl rfl ?_
    refine ew_get (t := 143) (j := 25) (v := .int (s 25)) fcX4 rfl (Nat.le_of_ble_eq_true rfl) q1046 rfl dX4_ends_140 rfl ?_
    rw [hnp]
    refine ew_icmp_ge (t := 195) (t2 := 146) dX4_ends_143 rfl rfl (fun c_143 => ?_) (fun c_143 => ?_)
    · rw [show k = np by omega]
      exact kk
    · exact absurd c_143 (by rw [show k = np by omega]; exact not_not_intro (Int32.le_refl _))
  | succ f ih =>
    intro k  hk
    refine ew_iload_n (t := 139) dX4_ends_138 rfl rfl rfl ?_
    refine ew_aload_n (t := 140) dX4_ends_139 rfl rfl rfl ?_
    refine ew_get (t := 143) (j := 25) (v := .int (s 25)) fcX4 rfl (Nat.le_of_ble_eq_true rfl) q1046 rfl dX4_ends_140 rfl ?_
    rw [hnp]
    refine ew_icmp_ge (t := 195) (t2 := 146) dX4_ends_143 rfl rfl (fun c_143 => ?_) (fun c_143 => ?_)
    · exact absurd c_143 (nI_ge (by omega) (by omega))
    · refine ew_aload_n (t := 147) dX4_ends_146 rfl rfl rfl ?_
      refine ew_get (t := 150) (j := 30) (v := .ref 55) fcX4 rfl (Nat.le_of_ble_eq_true rfl) q1051 rfl dX4_ends_147 rfl ?_
      refine ew_iload_n (t := 151) dX4_ends_150 rfl rfl rfl ?_
      refine ew_dup2 (t := 152) dX4_ends_151 rfl rfl rfl ?_
      refine ew_lald (t := 153) (j := c) (N := 100) rfl (vp_in_nI (by omega) (by omega)) (nI_clamp (by omega)) dX4_ends_152 rfl ?_
      rw [pk_uLs]
      refine ew_aload_n (t := 154) dX4_ends_153 rfl rfl rfl ?_
      refine ew_get (t := 157) (j := 30) (v := .ref 55) fcX4 rfl (Nat.le_of_ble_eq_true rfl) q1051 rfl dX4_ends_154 rfl ?_
      refine ew_iload_n (t := 158) dX4_ends_157 rfl rfl rfl ?_
      refine ew_lald (t := 159) (j := c) (N := 100) rfl (vp_in_nI (by omega) (by omega)) (nI_clamp (by omega)) dX4_ends_158 rfl ?_
      rw [pk_uLs]
      refine ew_lc0 (t := 160) dX4_ends_159 rfl ?_
      have J187 : ∀ (j187_0 : Int64), j187_0 = ((if (mulP P CU WA (F34 7) (s 32) c x k) = 0 then 1 else (if ¬ (((s 32) >>> ((nI k) &&& 31)) &&& 1) = 1 then (fitF P CU WA (F34 7) (5 * k) c).toInt64 else 1)) : Int64) → EW l G yX4_ends cX4_ends 5 none 4 0 0 Q 0 0 (hov h [(33, OB 4 (MOf s al)), (55, JA 100 (vp_updL S c (mulP P CU WA (F34 7) (s 32) c x k)))]) n 187 [some (.ref 33), some (.int (nI c)), some (.int (nI k)), o3, o4] [.long j187_0, .long (mulP P CU WA (F34 7) (s 32) c x k), .int (nI c), .ref 55] := by
        intro j187_0 hj187_0
        refine ew_lmul (t := 188) dX4_ends_187 rfl ?_
        refine ew_last (t := 189) (j := c) (N := 100) (h' := (hov h [(33, OB 4 (MOf s al)), (55, JA 100 (vp_updL (vp_updL S c (mulP P CU WA (F34 7) (s 32) c x k)) c ((mulP P CU WA (F34 7) (s 32) c x k) * j187_0)))])) rfl (vp_in_nI (by omega) (by omega)) (nI_clamp (by omega)) dX4_ends_188 (hov_up rfl) rfl ?_
        refine ew_iinc (t := 192) (x := (nI k)) (v := ((nI k) + 1)) (L' := [some (.ref 33), some (.int (nI c)), some (.int ((nI k) + 1)), o3, o4]) dX4_ends_189 rfl rfl (Nat.le_of_ble_eq_true rfl) rfl rfl ?_
        refine ew_goto (t := 138) dX4_ends_192 rfl ?_
        rw [nI_1]
        rw [updL_updL]
        rw [show (mulP P CU WA (F34 7) (s 32) c x k) * j187_0 = mulP P CU WA (F34 7) (s 32) c x (k + 1) from by rw [hj187_0]; rfl]
        exact ih (k + 1) (by omega)
      refine ew_lcmp_eq (t1 := 161) (t := 176) (t2 := 164) dX4_ends_160 rfl dX4_ends_161 rfl rfl (fun c_160 => ?_) (fun c_160 => ?_)
      · refine ew_lc1 (t := 177) dX4_ends_176 rfl ?_
        refine ew_goto (t := 187) dX4_ends_177 rfl ?_
        exact J187 1 (by simp only [if_pos c_160])
      · refine ew_aload_n (t := 165) dX4_ends_164 rfl rfl rfl ?_
        refine ew_get (t := 168) (j := 32) (v := .int (s 32)) fcX4 rfl (Nat.le_of_ble_eq_true rfl) q1053 rfl dX4_ends_165 rfl ?_
        refine ew_iload_n (t := 169) dX4_ends_168 rfl rfl rfl ?_
        refine ew_ishr (t := 170) dX4_ends_169 rfl ?_
        refine ew_ic1 (t := 171) dX4_ends_170 rfl ?_
        refine ew_iand (t := 172) dX4_ends_171 rfl ?_
        refine ew_ic1 (t := 173) dX4_ends_172 rfl ?_
        refine ew_icmp_ne (t := 180) (t2 := 176) dX4_ends_173 rfl rfl (fun c_173 => ?_) (fun c_173 => ?_)
        · refine ew_aload_n (t := 181) dX4_ends_180 rfl rfl rfl ?_
          refine ew_iload_n (t := 182) dX4_ends_181 rfl rfl rfl ?_
          refine ew_iload_n (t := 183) dX4_ends_182 rfl rfl rfl ?_
          obtain ⟨N, hN, eN⟩ := hP k (by omega)
          refine ew_callV (t := 186) (As := [_, _]) (am_fit (h := (hov h [(33, OB 4 (MOf s al)), (55, JA 100 (vp_updL S c (mulP P CU WA (F34 7) (s 32) c x k)))])) (q := k) (b := c) rfl m34 m37 m38 m52 (by omega) hc hN eN) (fcX4).1 rfl (lw_V q1290 q1292 qs42 q60 q1293) rfl naX4_fit dX4_ends_183 rfl (Nat.le_of_ble_eq_true rfl) (Nat.le_of_ble_eq_true rfl) (Nat.le_refl _) (Nat.le_refl _) (Nat.le_of_ble_eq_true rfl) rfl (qi ?_)
          refine ew_i2l (t := 187) dX4_ends_186 rfl ?_
          exact J187 (fitF P CU WA (F34 7) (5 * k) c).toInt64 (by simp only [if_neg c_160, if_pos c_173])
        · refine ew_lc1 (t := 177) dX4_ends_176 rfl ?_
          refine ew_goto (t := 187) dX4_ends_177 rfl ?_
          exact J187 1 (by simp only [if_neg c_160, if_neg (not_not_intro c_173)])
set_option maxHeartbeats 4000000 in
theorem lp_ends5 {l : Launch} {G : GW} {h : AH} {n : Nat} {s : Nat → Int32} {F34 CU WA P DC DB : Nat → Int32} {np nd : Nat} (m34 : h 34 = some (IA 8 F34)) (m37 : h 37 = some (IA 200 CU)) (m38 : h 38 = some (IA 200 WA)) (m52 : h 52 = some (IA 20 P)) (m53 : h 53 = some (IA 6 DC)) (m54 : h 54 = some (IA 6 DB)) (hnp : s 25 = nI np) (hnp4 : np ≤ 4) (hnd : s 27 = nI nd) (hnd4 : nd ≤ 4) (hP : ∀ q, q < np → ∃ N, N < 100 ∧ P (5 * q + 1) = nI N) {Q : Option Value → AH → Nat → Prop} {al : Int64} {S : Nat → Int64} {c : Nat} {o3 o4 : Option Value} (hc : c < 100) {x : Int64} (hno : s 33 = 0) (kk : ∀ o2 : Option Value, EW l G yX4_ends cX4_ends 5 none 4 0 0 Q 0 0 (hov h [(33, OB 4 (MOf s al)), (55, JA 100 (vp_updL S c (mulD DC DB c x nd)))]) n 253 [some (.ref 33), some (.int (nI c)), o2, o3, o4] []) : ∀ (f k : Nat), k + f = nd → EW l G yX4_ends cX4_ends 5 none 4 0 0 Q 0 0 (hov h [(33, OB 4 (MOf s al)), (55, JA 100 (vp_updL S c (mulD DC DB c x k)))]) n 197 [some (.ref 33), some (.int (nI c)), some (.int (nI k)), o3, o4] [] := by
  intro f
  induction f with
  | zero =>
    intro k  hk
    refine ew_iload_n (t := 198) dX4_ends_197 rfl rfl rfl ?_
    refine ew_aload_n (t := 199) dX4_ends_198 rfl rfl rfl ?_
    refine ew_get (t := 202) (j := 27) (v := .int (s 27)) fcX4 rfl (Nat.le_of_ble_eq_true rfl) q1048 rfl dX4_ends_199 rfl ?_
    rw [hnd]
    refine ew_icmp_ge (t := 253) (t2 := 205) dX4_ends_202 rfl rfl (fun c_202 => ?_) (fun c_202 => ?_)
    · rw [show k = nd by omega]
      exact kk _
    · exact absurd c_202 (by rw [show k = nd by omega]; exact not_not_intro (Int32.le_refl _))
  | succ f ih =>
    intro k  hk
    refine ew_iload_n (t := 198) dX4_ends_197 rfl rfl rfl ?_
    refine ew_aload_n (t := 199) dX4_ends_198 rfl rfl rfl ?_
    refine ew_get (t := 202) (j := 27) (v := .int (s 27)) fcX4 rfl (Nat.le_of_ble_eq_true rfl) q1048 rfl dX4_ends_199 rfl ?_
    rw [hnd]
    refine ew_icmp_ge (t := 253) (t2 := 205) dX4_ends_202 rfl rfl (fun c_202 => ?_) (fun c_202 => ?_)
    · exact absurd c_202 (nI_ge (by omega) (by omega))
    · refine ew_aload_n (t := 206) dX4_ends_205 rfl rfl rfl ?_
      refine ew_get (t := 209) (j := 33) (v := .int (s 33)) fcX4 rfl (Nat.le_of_ble_eq_true rfl) q1054 rfl dX4_ends_206 rfl ?_
      rw [hno]
      refine ew_if_ne (t := 253) (t2 := 212) dX4_ends_209 rfl rfl (fun c_209 => ?_) (fun c_209 => ?_)
      · exact absurd c_209 (by decide)
      · refine ew_aload_n (t := 213) dX4_ends_212 rfl rfl rfl ?_
        refine ew_get (t := 216) (j := 30) (v := .ref 55) fcX4 rfl (Nat.le_of_ble_eq_true rfl) q1051 rfl dX4_ends_213 rfl ?_
        refine ew_iload_n (t := 217) dX4_ends_216 rfl rfl rfl ?_
        refine ew_dup2 (t := 218) dX4_ends_217 rfl rfl rfl ?_
        refine ew_lald (t := 219) (j := c) (N := 100) rfl (vp_in_nI (by omega) (by omega)) (nI_clamp (by omega)) dX4_ends_218 rfl ?_
        rw [pk_uLs]
        refine ew_aload_n (t := 220) dX4_ends_219 rfl rfl rfl ?_
        refine ew_get (t := 223) (j := 28) (v := .ref 53) fcX4 rfl (Nat.le_of_ble_eq_true rfl) q1049 rfl dX4_ends_220 rfl ?_
        refine ew_iload_n (t := 224) dX4_ends_223 rfl rfl rfl ?_
        refine ew_iald (t := 225) (j := k) (N := 6) m53 (vp_in_nI (by omega) (by omega)) (nI_clamp (by omega)) dX4_ends_224 rfl ?_
        refine ew_iload_n (t := 226) dX4_ends_225 rfl rfl rfl ?_
        have J245 : ∀ (j245_0 : Int64), j245_0 = ((if ¬ (DC k) = (nI c) then 8 else (8 - (DB k)).toInt64) : Int64) → EW l G yX4_ends cX4_ends 5 none 4 0 0 Q 0 0 (hov h [(33, OB 4 (MOf s al)), (55, JA 100 (vp_updL S c (mulD DC DB c x k)))]) n 245 [some (.ref 33), some (.int (nI c)), some (.int (nI k)), o3, o4] [.long j245_0, .long (mulD DC DB c x k), .int (nI c), .ref 55] := by
          intro j245_0 hj245_0
          refine ew_lmul (t := 246) dX4_ends_245 rfl ?_
          refine ew_last (t := 247) (j := c) (N := 100) (h' := (hov h [(33, OB 4 (MOf s al)), (55, JA 100 (vp_updL (vp_updL S c (mulD DC DB c x k)) c ((mulD DC DB c x k) * j245_0)))])) rfl (vp_in_nI (by omega) (by omega)) (nI_clamp (by omega)) dX4_ends_246 (hov_up rfl) rfl ?_
          refine ew_iinc (t := 250) (x := (nI k)) (v := ((nI k) + 1)) (L' := [some (.ref 33), some (.int (nI c)), some (.int ((nI k) + 1)), o3, o4]) dX4_ends_247 rfl rfl (Nat.le_of_ble_eq_true rfl) rfl rfl ?_
          refine ew_goto (t := 197) dX4_ends_250 rfl ?_
          rw [nI_1]
          rw [updL_updL]
          rw [show (mulD DC DB c x k) * j245_0 = mulD DC DB c x (k + 1) from by rw [hj245_0]; rfl]
          exact ih (k + 1) (by omega)
        refine ew_icmp_ne (t := 242) (t2 := 229) dX4_ends_226 rfl rfl (fun c_226 => ?_) (fun c_226 => ?_)
        · refine ew_ldc2 (t := 245) (v := 8) dX4_ends_242 q1180 rfl ?_
          exact J245 8 (by simp only [if_pos c_226])
        · refine ew_bipush (t := 231) (v := 8) dX4_ends_229 (by decide) rfl ?_
          refine ew_aload_n (t := 232) dX4_ends_231 rfl rfl rfl ?_
          refine ew_get (t := 235) (j := 29) (v := .ref 54) fcX4 rfl (Nat.le_of_ble_eq_true rfl) q1050 rfl dX4_ends_232 rfl ?_
          refine ew_iload_n (t := 236) dX4_ends_235 rfl rfl rfl ?_
          refine ew_iald (t := 237) (j := k) (N := 6) m54 (vp_in_nI (by omega) (by omega)) (nI_clamp (by omega)) dX4_ends_236 rfl ?_
          refine ew_isub (t := 238) dX4_ends_237 rfl ?_
          refine ew_i2l (t := 239) dX4_ends_238 rfl ?_
          refine ew_goto (t := 245) dX4_ends_239 rfl ?_
          exact J245 (8 - (DB k)).toInt64 (by simp only [if_neg (not_not_intro c_226)])
