/-! the cases of the law's switch (printed by gen/law2.py) -/
set_option maxRecDepth 100000
abbrev LL (i : Nat) : List (Option Value) := [some (.retAddr 3), some (.ref 1), some (.ref 33), some (.int (nI i))]
abbrev QL : Option Value → AH → Nat → Prop := fun r _ _ => r = some (.int 1)
abbrev MCL : Nat := 1171731
abbrev MSL : Nat := 5556336
theorem sc_in {i c N : Nat} (h : i + c < N) (hN : N ≤ 384) : vp_in (nI i + nI c) N := by
  rw [nI_add]
  exact vp_in_nI h (by omega)
theorem sc_cl {i c N : Nat} (h : i + c < N) (hN : N ≤ 384) : (nI i + nI c).toNatClampNeg = i + c := by
  rw [nI_add]
  exact nI_clamp (by omega)
def LWV (xs : Nat → Int32) (i : Nat) : Int64 := ((xs (i + 1)).toInt64 <<< ((32 : Int32).toInt64 &&& 63)) ||| ((xs (i + 2)).toInt64 &&& 4294967295)
theorem wo_1 {h : AH} {n : Nat} (wo : WO h n) : ∃ sx, h 1 = some (XO sx) := by
  obtain ⟨sx, s, al, F, FL, Fk, np, nd, npk, ndk, e1, e2, e3, e4, tp, rr, w⟩ := wo
  exact ⟨sx, w.1.2.1⟩
section LAW
variable {X : State → Prop} {l : Launch} {G : GW} {b N : Nat} {xs : Nat → Int32} {i k sl : Nat} {h : AH} {n : Nat}
set_option maxHeartbeats 4000000 in
theorem lc_set (hX : ∀ s, X s → va_X b N xs s s.heap ∧ b < s.heap.size) (hb : gU G 3 = some b) (hbN : b ≤ gN G) (hN : N ≤ 384) (hi : i + 6 ≤ N) (wo : WO h n) (hk : k + 28 ≤ MCL) (hs : sl + 4010 ≤ MSL) (kk : ∀ h' n', WO h' n' → EWX X l G x code 4 ret 2048 MCL MSL QL (k + 28) (sl + 4010) h' n' 1235 (LL i) []) : EWX X l G x code 4 ret 2048 MCL MSL QL k sl h n 176 (LL i) [] := by
  obtain ⟨sx, x1⟩ := wo_1 wo
  obtain ⟨Q1, hx, hq⟩ := op_set (l := l) (G := G)  wo (xs (i + 1)) (xs (i + 2))
  refine ex_aload_n (t := 177) dL_law_176 rfl rfl rfl ?_
  refine ex_aloadU (t := 178) (x := 2) dL_law_177 rfl ⟨b, hb⟩ rfl rfl ?_
  refine ex_iload_n (t := 179) dL_law_178 rfl rfl rfl ?_
  refine ex_ic1 (t := 180) dL_law_179 rfl ?_
  refine ex_iadd (t := 181) dL_law_180 rfl ?_
  refine ex_sald (t := 182) (x := 2) (j := i + 1) hX hb hbN (sc_in (c := 1) (by omega) hN) (sc_cl (c := 1) (N := N) (by omega) hN) dL_law_181 rfl ?_
  refine ex_aloadU (t := 183) (x := 2) dL_law_182 rfl ⟨b, hb⟩ rfl rfl ?_
  refine ex_iload_n (t := 184) dL_law_183 rfl rfl rfl ?_
  refine ex_ic2 (t := 185) dL_law_184 rfl ?_
  refine ex_iadd (t := 186) dL_law_185 rfl ?_
  refine ex_sald (t := 187) (x := 2) (j := i + 2) hX hb hbN (sc_in (c := 2) (by omega) hN) (sc_cl (c := 2) (N := N) (by omega) hN) dL_law_186 rfl ?_
  refine ex_callV (t := 190) (As := [_, _]) hx (fcX0).1 x1 (lw_V q326 q327 q328 q51 q329) rfl naX0_set dL_law_187 rfl (Nat.le_of_ble_eq_true rfl) (Nat.le_of_ble_eq_true rfl) (by omega) (by omega) (Nat.le_of_ble_eq_true rfl) rfl (fun r h1 n1 q => ?_)
  obtain ⟨v, rfl, okv, ⟨fs, m33⟩, hm⟩ := hq r h1 n1 q
  obtain ⟨z, rfl⟩ := okv
  refine ex_aload_n (t := 191) dL_law_190 rfl rfl rfl ?_
  refine ex_aloadU (t := 192) (x := 2) dL_law_191 rfl ⟨b, hb⟩ rfl rfl ?_
  refine ex_iload_n (t := 193) dL_law_192 rfl rfl rfl ?_
  refine ex_ic1 (t := 194) dL_law_193 rfl ?_
  refine ex_iadd (t := 195) dL_law_194 rfl ?_
  refine ex_sald (t := 196) (x := 2) (j := i + 1) hX hb hbN (sc_in (c := 1) (by omega) hN) (sc_cl (c := 1) (N := N) (by omega) hN) dL_law_195 rfl ?_
  refine ex_aloadU (t := 197) (x := 2) dL_law_196 rfl ⟨b, hb⟩ rfl rfl ?_
  refine ex_iload_n (t := 198) dL_law_197 rfl rfl rfl ?_
  refine ex_ic2 (t := 199) dL_law_198 rfl ?_
  refine ex_iadd (t := 200) dL_law_199 rfl ?_
  refine ex_sald (t := 201) (x := 2) (j := i + 2) hX hb hbN (sc_in (c := 2) (by omega) hN) (sc_cl (c := 2) (N := N) (by omega) hN) dL_law_200 rfl ?_
  refine ex_callV (t := 204) (As := [_, _]) hm (fcX4).1 m33 (lw_V q1148 q1149 q1150 q60 q1151) rfl naX4_set dL_law_201 rfl (Nat.le_of_ble_eq_true rfl) (Nat.le_of_ble_eq_true rfl) (by omega) (by omega) (Nat.le_of_ble_eq_true rfl) rfl (fun r2 h2 n2 q2 => ?_)
  obtain ⟨rfl, wo2⟩ := q2
  refine ex_icmp_eq (t := 1235) (t2 := 207) dL_law_204 rfl rfl (fun _ => ?_) (fun c => absurd rfl c)
  exact ex_cnt (by omega) (by omega) rfl (kk h2 n2 wo2)
set_option maxHeartbeats 4000000 in
theorem lc_far (hX : ∀ s, X s → va_X b N xs s s.heap ∧ b < s.heap.size) (hb : gU G 3 = some b) (hbN : b ≤ gN G) (hN : N ≤ 384) (hi : i + 6 ≤ N) (wo : WO h n) (hk : k + 28 ≤ MCL) (hs : sl + 4010 ≤ MSL) (kk : ∀ h' n', WO h' n' → EWX X l G x code 4 ret 2048 MCL MSL QL (k + 28) (sl + 4010) h' n' 1235 (LL i) []) : EWX X l G x code 4 ret 2048 MCL MSL QL k sl h n 209 (LL i) [] := by
  obtain ⟨sx, x1⟩ := wo_1 wo
  obtain ⟨Q1, hx, hq⟩ := op_far (l := l) (G := G)  wo (xs (i + 1))
  refine ex_aload_n (t := 210) dL_law_209 rfl rfl rfl ?_
  refine ex_aloadU (t := 211) (x := 2) dL_law_210 rfl ⟨b, hb⟩ rfl rfl ?_
  refine ex_iload_n (t := 212) dL_law_211 rfl rfl rfl ?_
  refine ex_ic1 (t := 213) dL_law_212 rfl ?_
  refine ex_iadd (t := 214) dL_law_213 rfl ?_
  refine ex_sald (t := 215) (x := 2) (j := i + 1) hX hb hbN (sc_in (c := 1) (by omega) hN) (sc_cl (c := 1) (N := N) (by omega) hN) dL_law_214 rfl ?_
  refine ex_callV (t := 218) (As := [_]) hx (fcX0).1 x1 (lw_V q336 q337 q338 q51 q339) rfl naX0_far dL_law_215 rfl (Nat.le_of_ble_eq_true rfl) (Nat.le_of_ble_eq_true rfl) (by omega) (by omega) (Nat.le_of_ble_eq_true rfl) rfl (fun r h1 n1 q => ?_)
  obtain ⟨v, rfl, okv, ⟨fs, m33⟩, hm⟩ := hq r h1 n1 q
  obtain ⟨z, rfl⟩ := okv
  refine ex_aload_n (t := 219) dL_law_218 rfl rfl rfl ?_
  refine ex_aloadU (t := 220) (x := 2) dL_law_219 rfl ⟨b, hb⟩ rfl rfl ?_
  refine ex_iload_n (t := 221) dL_law_220 rfl rfl rfl ?_
  refine ex_ic1 (t := 222) dL_law_221 rfl ?_
  refine ex_iadd (t := 223) dL_law_222 rfl ?_
  refine ex_sald (t := 224) (x := 2) (j := i + 1) hX hb hbN (sc_in (c := 1) (by omega) hN) (sc_cl (c := 1) (N := N) (by omega) hN) dL_law_223 rfl ?_
  refine ex_callV (t := 227) (As := [_]) hm (fcX4).1 m33 (lw_V q1156 q1157 q1158 q60 q1159) rfl naX4_far dL_law_224 rfl (Nat.le_of_ble_eq_true rfl) (Nat.le_of_ble_eq_true rfl) (by omega) (by omega) (Nat.le_of_ble_eq_true rfl) rfl (fun r2 h2 n2 q2 => ?_)
  obtain ⟨rfl, wo2⟩ := q2
  refine ex_icmp_eq (t := 1235) (t2 := 230) dL_law_227 rfl rfl (fun _ => ?_) (fun c => absurd rfl c)
  exact ex_cnt (by omega) (by omega) rfl (kk h2 n2 wo2)
set_option maxHeartbeats 4000000 in
theorem lc_ring (hX : ∀ s, X s → va_X b N xs s s.heap ∧ b < s.heap.size) (hb : gU G 3 = some b) (hbN : b ≤ gN G) (hN : N ≤ 384) (hi : i + 6 ≤ N) (wo : WO h n) (hk : k + 28 ≤ MCL) (hs : sl + 4010 ≤ MSL) (kk : ∀ h' n', WO h' n' → EWX X l G x code 4 ret 2048 MCL MSL QL (k + 28) (sl + 4010) h' n' 1235 (LL i) []) : EWX X l G x code 4 ret 2048 MCL MSL QL k sl h n 232 (LL i) [] := by
  obtain ⟨sx, x1⟩ := wo_1 wo
  obtain ⟨Q1, hx, hq⟩ := op_ring (l := l) (G := G)  wo (xs (i + 1)) (xs (i + 2)) (xs (i + 3))
  refine ex_aload_n (t := 233) dL_law_232 rfl rfl rfl ?_
  refine ex_aloadU (t := 234) (x := 2) dL_law_233 rfl ⟨b, hb⟩ rfl rfl ?_
  refine ex_iload_n (t := 235) dL_law_234 rfl rfl rfl ?_
  refine ex_ic1 (t := 236) dL_law_235 rfl ?_
  refine ex_iadd (t := 237) dL_law_236 rfl ?_
  refine ex_sald (t := 238) (x := 2) (j := i + 1) hX hb hbN (sc_in (c := 1) (by omega) hN) (sc_cl (c := 1) (N := N) (by omega) hN) dL_law_237 rfl ?_
  refine ex_aloadU (t := 239) (x := 2) dL_law_238 rfl ⟨b, hb⟩ rfl rfl ?_
  refine ex_iload_n (t := 240) dL_law_239 rfl rfl rfl ?_
  refine ex_ic2 (t := 241) dL_law_240 rfl ?_
  refine ex_iadd (t := 242) dL_law_241 rfl ?_
  refine ex_sald (t := 243) (x := 2) (j := i + 2) hX hb hbN (sc_in (c := 2) (by omega) hN) (sc_cl (c := 2) (N := N) (by omega) hN) dL_law_242 rfl ?_
  refine ex_aloadU (t := 244) (x := 2) dL_law_243 rfl ⟨b, hb⟩ rfl rfl ?_
  refine ex_iload_n (t := 245) dL_law_244 rfl rfl rfl ?_
  refine ex_ic3 (t := 246) dL_law_245 rfl ?_
  refine ex_iadd (t := 247) dL_law_246 rfl ?_
  refine ex_sald (t := 248) (x := 2) (j := i + 3) hX hb hbN (sc_in (c := 3) (by omega) hN) (sc_cl (c := 3) (N := N) (by omega) hN) dL_law_247 rfl ?_
  refine ex_callV (t := 251) (As := [_, _, _]) hx (fcX0).1 x1 (lw_V q344 q345 q346 q51 q347) rfl naX0_ring dL_law_248 rfl (Nat.le_of_ble_eq_true rfl) (Nat.le_of_ble_eq_true rfl) (by omega) (by omega) (Nat.le_of_ble_eq_true rfl) rfl (fun r h1 n1 q => ?_)
  obtain ⟨v, rfl, okv, ⟨fs, m33⟩, hm⟩ := hq r h1 n1 q
  obtain ⟨z, rfl⟩ := okv
  refine ex_aload_n (t := 252) dL_law_251 rfl rfl rfl ?_
  refine ex_aloadU (t := 253) (x := 2) dL_law_252 rfl ⟨b, hb⟩ rfl rfl ?_
  refine ex_iload_n (t := 254) dL_law_253 rfl rfl rfl ?_
  refine ex_ic1 (t := 255) dL_law_254 rfl ?_
  refine ex_iadd (t := 256) dL_law_255 rfl ?_
  refine ex_sald (t := 257) (x := 2) (j := i + 1) hX hb hbN (sc_in (c := 1) (by omega) hN) (sc_cl (c := 1) (N := N) (by omega) hN) dL_law_256 rfl ?_
  refine ex_aloadU (t := 258) (x := 2) dL_law_257 rfl ⟨b, hb⟩ rfl rfl ?_
  refine ex_iload_n (t := 259) dL_law_258 rfl rfl rfl ?_
  refine ex_ic2 (t := 260) dL_law_259 rfl ?_
  refine ex_iadd (t := 261) dL_law_260 rfl ?_
  refine ex_sald (t := 262) (x := 2) (j := i + 2) hX hb hbN (sc_in (c := 2) (by omega) hN) (sc_cl (c := 2) (N := N) (by omega) hN) dL_law_261 rfl ?_
  refine ex_aloadU (t := 263) (x := 2) dL_law_262 rfl ⟨b, hb⟩ rfl rfl ?_
  refine ex_iload_n (t := 264) dL_law_263 rfl rfl rfl ?_
  refine ex_ic3 (t := 265) dL_law_264 rfl ?_
  refine ex_iadd (t := 266) dL_law_265 rfl ?_
  refine ex_sald (t := 267) (x := 2) (j := i + 3) hX hb hbN (sc_in (c := 3) (by omega) hN) (sc_cl (c := 3) (N := N) (by omega) hN) dL_law_266 rfl ?_
  refine ex_callV (t := 270) (As := [_, _, _]) hm (fcX4).1 m33 (lw_V q1168 q1169 q1170 q60 q1171) rfl naX4_ring dL_law_267 rfl (Nat.le_of_ble_eq_true rfl) (Nat.le_of_ble_eq_true rfl) (by omega) (by omega) (Nat.le_of_ble_eq_true rfl) rfl (fun r2 h2 n2 q2 => ?_)
  obtain ⟨rfl, wo2⟩ := q2
  refine ex_icmp_eq (t := 1235) (t2 := 273) dL_law_270 rfl rfl (fun _ => ?_) (fun c => absurd rfl c)
  exact ex_cnt (by omega) (by omega) rfl (kk h2 n2 wo2)
set_option maxHeartbeats 4000000 in
theorem lc_type (hX : ∀ s, X s → va_X b N xs s s.heap ∧ b < s.heap.size) (hb : gU G 3 = some b) (hbN : b ≤ gN G) (hN : N ≤ 384) (hi : i + 6 ≤ N) (wo : WO h n) (hk : k + 28 ≤ MCL) (hs : sl + 4010 ≤ MSL) (kk : ∀ h' n', WO h' n' → EWX X l G x code 4 ret 2048 MCL MSL QL (k + 28) (sl + 4010) h' n' 1235 (LL i) []) : EWX X l G x code 4 ret 2048 MCL MSL QL k sl h n 275 (LL i) [] := by
  obtain ⟨sx, x1⟩ := wo_1 wo
  obtain ⟨Q1, hx, hq⟩ := op_type (l := l) (G := G)  wo (LWV xs i) (xs (i + 3))
  refine ex_aload_n (t := 276) dL_law_275 rfl rfl rfl ?_
  refine ex_aloadU (t := 277) (x := 2) dL_law_276 rfl ⟨b, hb⟩ rfl rfl ?_
  refine ex_iload_n (t := 278) dL_law_277 rfl rfl rfl ?_
  refine ex_ic1 (t := 279) dL_law_278 rfl ?_
  refine ex_iadd (t := 280) dL_law_279 rfl ?_
  refine ex_sald (t := 281) (x := 2) (j := i + 1) hX hb hbN (sc_in (c := 1) (by omega) hN) (sc_cl (c := 1) (N := N) (by omega) hN) dL_law_280 rfl ?_
  refine ex_i2l (t := 282) dL_law_281 rfl ?_
  refine ex_bipush (t := 284) (v := 32) dL_law_282 (by decide) rfl ?_
  refine ex_lshl (t := 285) dL_law_284 rfl ?_
  refine ex_aloadU (t := 286) (x := 2) dL_law_285 rfl ⟨b, hb⟩ rfl rfl ?_
  refine ex_iload_n (t := 287) dL_law_286 rfl rfl rfl ?_
  refine ex_ic2 (t := 288) dL_law_287 rfl ?_
  refine ex_iadd (t := 289) dL_law_288 rfl ?_
  refine ex_sald (t := 290) (x := 2) (j := i + 2) hX hb hbN (sc_in (c := 2) (by omega) hN) (sc_cl (c := 2) (N := N) (by omega) hN) dL_law_289 rfl ?_
  refine ex_i2l (t := 291) dL_law_290 rfl ?_
  refine ex_ldc2 (t := 294) (v := 4294967295) dL_law_291 q1410 rfl ?_
  refine ex_land (t := 295) dL_law_294 rfl ?_
  refine ex_lor (t := 296) dL_law_295 rfl ?_
  refine ex_aloadU (t := 297) (x := 2) dL_law_296 rfl ⟨b, hb⟩ rfl rfl ?_
  refine ex_iload_n (t := 298) dL_law_297 rfl rfl rfl ?_
  refine ex_ic3 (t := 299) dL_law_298 rfl ?_
  refine ex_iadd (t := 300) dL_law_299 rfl ?_
  refine ex_sald (t := 301) (x := 2) (j := i + 3) hX hb hbN (sc_in (c := 3) (by omega) hN) (sc_cl (c := 3) (N := N) (by omega) hN) dL_law_300 rfl ?_
  refine ex_callV (t := 304) (As := [_, _]) hx (fcX0).1 x1 (lw_V q348 q349 q350 q51 q351) rfl naX0_type dL_law_301 rfl (Nat.le_of_ble_eq_true rfl) (Nat.le_of_ble_eq_true rfl) (by omega) (by omega) (Nat.le_of_ble_eq_true rfl) rfl (fun r h1 n1 q => ?_)
  obtain ⟨v, rfl, okv, ⟨fs, m33⟩, hm⟩ := hq r h1 n1 q
  obtain ⟨z, rfl⟩ := okv
  refine ex_aload_n (t := 305) dL_law_304 rfl rfl rfl ?_
  refine ex_aloadU (t := 306) (x := 2) dL_law_305 rfl ⟨b, hb⟩ rfl rfl ?_
  refine ex_iload_n (t := 307) dL_law_306 rfl rfl rfl ?_
  refine ex_ic1 (t := 308) dL_law_307 rfl ?_
  refine ex_iadd (t := 309) dL_law_308 rfl ?_
  refine ex_sald (t := 310) (x := 2) (j := i + 1) hX hb hbN (sc_in (c := 1) (by omega) hN) (sc_cl (c := 1) (N := N) (by omega) hN) dL_law_309 rfl ?_
  refine ex_i2l (t := 311) dL_law_310 rfl ?_
  refine ex_bipush (t := 313) (v := 32) dL_law_311 (by decide) rfl ?_
  refine ex_lshl (t := 314) dL_law_313 rfl ?_
  refine ex_aloadU (t := 315) (x := 2) dL_law_314 rfl ⟨b, hb⟩ rfl rfl ?_
  refine ex_iload_n (t := 316) dL_law_315 rfl rfl rfl ?_
  refine ex_ic2 (t := 317) dL_law_316 rfl ?_
  refine ex_iadd (t := 318) dL_law_317 rfl ?_
  refine ex_sald (t := 319) (x := 2) (j := i + 2) hX hb hbN (sc_in (c := 2) (by omega) hN) (sc_cl (c := 2) (N := N) (by omega) hN) dL_law_318 rfl ?_
  refine ex_i2l (t := 320) dL_law_319 rfl ?_
  refine ex_ldc2 (t := 323) (v := 4294967295) dL_law_320 q1410 rfl ?_
  refine ex_land (t := 324) dL_law_323 rfl ?_
  refine ex_lor (t := 325) dL_law_324 rfl ?_
  refine ex_aloadU (t := 326) (x := 2) dL_law_325 rfl ⟨b, hb⟩ rfl rfl ?_
  refine ex_iload_n (t := 327) dL_law_326 rfl rfl rfl ?_
  refine ex_ic3 (t := 328) dL_law_327 rfl ?_
  refine ex_iadd (t := 329) dL_law_328 rfl ?_
  refine ex_sald (t := 330) (x := 2) (j := i + 3) hX hb hbN (sc_in (c := 3) (by omega) hN) (sc_cl (c := 3) (N := N) (by omega) hN) dL_law_329 rfl ?_
  refine ex_callV (t := 333) (As := [_, _]) hm (fcX4).1 m33 (lw_V q1176 q1177 q1178 q60 q1179) rfl naX4_type dL_law_330 rfl (Nat.le_of_ble_eq_true rfl) (Nat.le_of_ble_eq_true rfl) (by omega) (by omega) (Nat.le_of_ble_eq_true rfl) rfl (fun r2 h2 n2 q2 => ?_)
  obtain ⟨rfl, wo2⟩ := q2
  refine ex_icmp_eq (t := 1235) (t2 := 336) dL_law_333 rfl rfl (fun _ => ?_) (fun c => absurd rfl c)
  exact ex_cnt (by omega) (by omega) rfl (kk h2 n2 wo2)
set_option maxHeartbeats 4000000 in
theorem lc_rings (hX : ∀ s, X s → va_X b N xs s s.heap ∧ b < s.heap.size) (hb : gU G 3 = some b) (hbN : b ≤ gN G) (hN : N ≤ 384) (hi : i + 6 ≤ N) (wo : WO h n) (hk : k + 28 ≤ MCL) (hs : sl + 4010 ≤ MSL) (kk : ∀ h' n', WO h' n' → EWX X l G x code 4 ret 2048 MCL MSL QL (k + 28) (sl + 4010) h' n' 1235 (LL i) []) : EWX X l G x code 4 ret 2048 MCL MSL QL k sl h n 338 (LL i) [] := by
  obtain ⟨sx, x1⟩ := wo_1 wo
  obtain ⟨Q1, hx, hq⟩ := op_rings (l := l) (G := G)  wo
  refine ex_aload_n (t := 339) dL_law_338 rfl rfl rfl ?_
  refine ex_callVW (t := 342) (As := []) hx (fcX0).1 x1 (by rw [show hdl yX0_rings = [(36, 41, 44, 30)] from by decide +kernel]; exact lw_VW q353 q354 q355 q51 q356) rfl naX0_rings dL_law_339 rfl (Nat.le_of_ble_eq_true rfl) (Nat.le_of_ble_eq_true rfl) (by omega) (by omega) (Nat.le_of_ble_eq_true rfl) rfl (fun r h1 n1 q => ?_)
  obtain ⟨v, rfl, okv, ⟨fs, m33⟩, hm⟩ := hq r h1 n1 q
  obtain ⟨z, rfl⟩ := okv
  refine ex_aload_n (t := 343) dL_law_342 rfl rfl rfl ?_
  refine ex_callV (t := 346) (As := []) hm (fcX4).1 m33 (lw_V q1184 q1185 q1186 q60 q1187) rfl naX4_rings dL_law_343 rfl (Nat.le_of_ble_eq_true rfl) (Nat.le_of_ble_eq_true rfl) (by omega) (by omega) (Nat.le_of_ble_eq_true rfl) rfl (fun r2 h2 n2 q2 => ?_)
  obtain ⟨rfl, wo2⟩ := q2
  refine ex_icmp_eq (t := 1235) (t2 := 349) dL_law_346 rfl rfl (fun _ => ?_) (fun c => absurd rfl c)
  exact ex_cnt (by omega) (by omega) rfl (kk h2 n2 wo2)
set_option maxHeartbeats 4000000 in
theorem lc_ways (hX : ∀ s, X s → va_X b N xs s s.heap ∧ b < s.heap.size) (hb : gU G 3 = some b) (hbN : b ≤ gN G) (hN : N ≤ 384) (hi : i + 6 ≤ N) (wo : WO h n) (hk : k + 28 ≤ MCL) (hs : sl + 4010 ≤ MSL) (kk : ∀ h' n', WO h' n' → EWX X l G x code 4 ret 2048 MCL MSL QL (k + 28) (sl + 4010) h' n' 1235 (LL i) []) : EWX X l G x code 4 ret 2048 MCL MSL QL k sl h n 351 (LL i) [] := by
  obtain ⟨sx, x1⟩ := wo_1 wo
  obtain ⟨Q1, hx, hq⟩ := op_ways (l := l) (G := G)  wo
  refine ex_aload_n (t := 352) dL_law_351 rfl rfl rfl ?_
  refine ex_callV (t := 355) (As := []) hx (fcX0).1 x1 (lw_V q395 q396 q397 q51 q398) rfl naX0_ways dL_law_352 rfl (Nat.le_of_ble_eq_true rfl) (Nat.le_of_ble_eq_true rfl) (by omega) (by omega) (Nat.le_of_ble_eq_true rfl) rfl (fun r h1 n1 q => ?_)
  obtain ⟨v, rfl, okv, ⟨fs, m33⟩, hm⟩ := hq r h1 n1 q
  obtain ⟨z, rfl⟩ := okv
  refine ex_aload_n (t := 356) dL_law_355 rfl rfl rfl ?_
  refine ex_callV (t := 359) (As := []) hm (fcX4).1 m33 (lw_V q1207 q1208 q1209 q60 q1210) rfl naX4_ways dL_law_356 rfl (Nat.le_of_ble_eq_true rfl) (Nat.le_of_ble_eq_true rfl) (by omega) (by omega) (Nat.le_of_ble_eq_true rfl) rfl (fun r2 h2 n2 q2 => ?_)
  obtain ⟨rfl, wo2⟩ := q2
  refine ex_icmp_eq (t := 1235) (t2 := 362) dL_law_359 rfl rfl (fun _ => ?_) (fun c => absurd rfl c)
  exact ex_cnt (by omega) (by omega) rfl (kk h2 n2 wo2)
set_option maxHeartbeats 4000000 in
theorem lc_weight (hX : ∀ s, X s → va_X b N xs s s.heap ∧ b < s.heap.size) (hb : gU G 3 = some b) (hbN : b ≤ gN G) (hN : N ≤ 384) (hi : i + 6 ≤ N) (wo : WO h n) (hk : k + 28 ≤ MCL) (hs : sl + 4010 ≤ MSL) (kk : ∀ h' n', WO h' n' → EWX X l G x code 4 ret 2048 MCL MSL QL (k + 28) (sl + 4010) h' n' 1235 (LL i) []) : EWX X l G x code 4 ret 2048 MCL MSL QL k sl h n 364 (LL i) [] := by
  obtain ⟨sx, x1⟩ := wo_1 wo
  obtain ⟨Q1, hx, hq⟩ := op_weight (l := l) (G := G)  wo
  refine ex_aload_n (t := 365) dL_law_364 rfl rfl rfl ?_
  refine ex_callV (t := 368) (As := []) hx (fcX0).1 x1 (lw_V q485 q486 q487 q51 q488) rfl naX0_weight dL_law_365 rfl (Nat.le_of_ble_eq_true rfl) (Nat.le_of_ble_eq_true rfl) (by omega) (by omega) (Nat.le_of_ble_eq_true rfl) rfl (fun r h1 n1 q => ?_)
  obtain ⟨v, rfl, okv, ⟨fs, m33⟩, hm⟩ := hq r h1 n1 q
  obtain ⟨z, rfl⟩ := okv
  refine ex_aload_n (t := 369) dL_law_368 rfl rfl rfl ?_
  refine ex_callV (t := 372) (As := []) hm (fcX4).1 m33 (lw_V q1240 q1241 q1242 q60 q1243) rfl naX4_weight dL_law_369 rfl (Nat.le_of_ble_eq_true rfl) (Nat.le_of_ble_eq_true rfl) (by omega) (by omega) (Nat.le_of_ble_eq_true rfl) rfl (fun r2 h2 n2 q2 => ?_)
  obtain ⟨rfl, wo2⟩ := q2
  refine ex_lcmp_eq (t1 := 373) (t := 1235) (t2 := 376) dL_law_372 rfl dL_law_373 rfl rfl (fun _ => ?_) (fun c => absurd rfl c)
  exact ex_cnt (by omega) (by omega) rfl (kk h2 n2 wo2)
set_option maxHeartbeats 4000000 in
theorem lc_way (hX : ∀ s, X s → va_X b N xs s s.heap ∧ b < s.heap.size) (hb : gU G 3 = some b) (hbN : b ≤ gN G) (hN : N ≤ 384) (hi : i + 6 ≤ N) (wo : WO h n) (hk : k + 28 ≤ MCL) (hs : sl + 4010 ≤ MSL) (kk : ∀ h' n', WO h' n' → EWX X l G x code 4 ret 2048 MCL MSL QL (k + 28) (sl + 4010) h' n' 1235 (LL i) []) : EWX X l G x code 4 ret 2048 MCL MSL QL k sl h n 378 (LL i) [] := by
  obtain ⟨sx, x1⟩ := wo_1 wo
  obtain ⟨Q1, hx, hq⟩ := op_way (l := l) (G := G)  wo (xs (i + 1)) (xs (i + 2))
  refine ex_aload_n (t := 379) dL_law_378 rfl rfl rfl ?_
  refine ex_aloadU (t := 380) (x := 2) dL_law_379 rfl ⟨b, hb⟩ rfl rfl ?_
  refine ex_iload_n (t := 381) dL_law_380 rfl rfl rfl ?_
  refine ex_ic1 (t := 382) dL_law_381 rfl ?_
  refine ex_iadd (t := 383) dL_law_382 rfl ?_
  refine ex_sald (t := 384) (x := 2) (j := i + 1) hX hb hbN (sc_in (c := 1) (by omega) hN) (sc_cl (c := 1) (N := N) (by omega) hN) dL_law_383 rfl ?_
  refine ex_aloadU (t := 385) (x := 2) dL_law_384 rfl ⟨b, hb⟩ rfl rfl ?_
  refine ex_iload_n (t := 386) dL_law_385 rfl rfl rfl ?_
  refine ex_ic2 (t := 387) dL_law_386 rfl ?_
  refine ex_iadd (t := 388) dL_law_387 rfl ?_
  refine ex_sald (t := 389) (x := 2) (j := i + 2) hX hb hbN (sc_in (c := 2) (by omega) hN) (sc_cl (c := 2) (N := N) (by omega) hN) dL_law_388 rfl ?_
  refine ex_callV (t := 392) (As := [_, _]) hx (fcX0).1 x1 (lw_V q489 q490 q491 q51 q492) rfl naX0_way dL_law_389 rfl (Nat.le_of_ble_eq_true rfl) (Nat.le_of_ble_eq_true rfl) (by omega) (by omega) (Nat.le_of_ble_eq_true rfl) rfl (fun r h1 n1 q => ?_)
  obtain ⟨v, rfl, okv, ⟨fs, m33⟩, hm⟩ := hq r h1 n1 q
  obtain ⟨z, rfl⟩ := okv
  refine ex_aload_n (t := 393) dL_law_392 rfl rfl rfl ?_
  refine ex_aloadU (t := 394) (x := 2) dL_law_393 rfl ⟨b, hb⟩ rfl rfl ?_
  refine ex_iload_n (t := 395) dL_law_394 rfl rfl rfl ?_
  refine ex_ic1 (t := 396) dL_law_395 rfl ?_
  refine ex_iadd (t := 397) dL_law_396 rfl ?_
  refine ex_sald (t := 398) (x := 2) (j := i + 1) hX hb hbN (sc_in (c := 1) (by omega) hN) (sc_cl (c := 1) (N := N) (by omega) hN) dL_law_397 rfl ?_
  refine ex_aloadU (t := 399) (x := 2) dL_law_398 rfl ⟨b, hb⟩ rfl rfl ?_
  refine ex_iload_n (t := 400) dL_law_399 rfl rfl rfl ?_
  refine ex_ic2 (t := 401) dL_law_400 rfl ?_
  refine ex_iadd (t := 402) dL_law_401 rfl ?_
  refine ex_sald (t := 403) (x := 2) (j := i + 2) hX hb hbN (sc_in (c := 2) (by omega) hN) (sc_cl (c := 2) (N := N) (by omega) hN) dL_law_402 rfl ?_
  refine ex_callV (t := 406) (As := [_, _]) hm (fcX4).1 m33 (lw_V q1248 q1249 q1250 q60 q1251) rfl naX4_way dL_law_403 rfl (Nat.le_of_ble_eq_true rfl) (Nat.le_of_ble_eq_true rfl) (by omega) (by omega) (Nat.le_of_ble_eq_true rfl) rfl (fun r2 h2 n2 q2 => ?_)
  obtain ⟨rfl, wo2⟩ := q2
  refine ex_icmp_eq (t := 1235) (t2 := 409) dL_law_406 rfl rfl (fun _ => ?_) (fun c => absurd rfl c)
  exact ex_cnt (by omega) (by omega) rfl (kk h2 n2 wo2)
set_option maxHeartbeats 4000000 in
theorem lc_may (hX : ∀ s, X s → va_X b N xs s s.heap ∧ b < s.heap.size) (hb : gU G 3 = some b) (hbN : b ≤ gN G) (hN : N ≤ 384) (hi : i + 6 ≤ N) (wo : WO h n) (hk : k + 28 ≤ MCL) (hs : sl + 4010 ≤ MSL) (kk : ∀ h' n', WO h' n' → EWX X l G x code 4 ret 2048 MCL MSL QL (k + 28) (sl + 4010) h' n' 1235 (LL i) []) : EWX X l G x code 4 ret 2048 MCL MSL QL k sl h n 411 (LL i) [] := by
  obtain ⟨sx, x1⟩ := wo_1 wo
  obtain ⟨Q1, hx, hq⟩ := op_may (l := l) (G := G)  wo (xs (i + 1)) (xs (i + 2))
  refine ex_aload_n (t := 412) dL_law_411 rfl rfl rfl ?_
  refine ex_aloadU (t := 413) (x := 2) dL_law_412 rfl ⟨b, hb⟩ rfl rfl ?_
  refine ex_iload_n (t := 414) dL_law_413 rfl rfl rfl ?_
  refine ex_ic1 (t := 415) dL_law_414 rfl ?_
  refine ex_iadd (t := 416) dL_law_415 rfl ?_
  refine ex_sald (t := 417) (x := 2) (j := i + 1) hX hb hbN (sc_in (c := 1) (by omega) hN) (sc_cl (c := 1) (N := N) (by omega) hN) dL_law_416 rfl ?_
  refine ex_aloadU (t := 418) (x := 2) dL_law_417 rfl ⟨b, hb⟩ rfl rfl ?_
  refine ex_iload_n (t := 419) dL_law_418 rfl rfl rfl ?_
  refine ex_ic2 (t := 420) dL_law_419 rfl ?_
  refine ex_iadd (t := 421) dL_law_420 rfl ?_
  refine ex_sald (t := 422) (x := 2) (j := i + 2) hX hb hbN (sc_in (c := 2) (by omega) hN) (sc_cl (c := 2) (N := N) (by omega) hN) dL_law_421 rfl ?_
  refine ex_callV (t := 425) (As := [_, _]) hx (fcX0).1 x1 (lw_V q524 q525 q526 q51 q527) rfl naX0_may dL_law_422 rfl (Nat.le_of_ble_eq_true rfl) (Nat.le_of_ble_eq_true rfl) (by omega) (by omega) (Nat.le_of_ble_eq_true rfl) rfl (fun r h1 n1 q => ?_)
  obtain ⟨v, rfl, okv, ⟨fs, m33⟩, hm⟩ := hq r h1 n1 q
  obtain ⟨z, rfl⟩ := okv
  refine ex_aload_n (t := 426) dL_law_425 rfl rfl rfl ?_
  refine ex_aloadU (t := 427) (x := 2) dL_law_426 rfl ⟨b, hb⟩ rfl rfl ?_
  refine ex_iload_n (t := 428) dL_law_427 rfl rfl rfl ?_
  refine ex_ic1 (t := 429) dL_law_428 rfl ?_
  refine ex_iadd (t := 430) dL_law_429 rfl ?_
  refine ex_sald (t := 431) (x := 2) (j := i + 1) hX hb hbN (sc_in (c := 1) (by omega) hN) (sc_cl (c := 1) (N := N) (by omega) hN) dL_law_430 rfl ?_
  refine ex_aloadU (t := 432) (x := 2) dL_law_431 rfl ⟨b, hb⟩ rfl rfl ?_
  refine ex_iload_n (t := 433) dL_law_432 rfl rfl rfl ?_
  refine ex_ic2 (t := 434) dL_law_433 rfl ?_
  refine ex_iadd (t := 435) dL_law_434 rfl ?_
  refine ex_sald (t := 436) (x := 2) (j := i + 2) hX hb hbN (sc_in (c := 2) (by omega) hN) (sc_cl (c := 2) (N := N) (by omega) hN) dL_law_435 rfl ?_
  refine ex_callV (t := 439) (As := [_, _]) hm (fcX4).1 m33 (lw_V q1257 q1258 q1259 q60 q1260) rfl naX4_may dL_law_436 rfl (Nat.le_of_ble_eq_true rfl) (Nat.le_of_ble_eq_true rfl) (by omega) (by omega) (Nat.le_of_ble_eq_true rfl) rfl (fun r2 h2 n2 q2 => ?_)
  obtain ⟨rfl, wo2⟩ := q2
  refine ex_icmp_eq (t := 1235) (t2 := 442) dL_law_439 rfl rfl (fun _ => ?_) (fun c => absurd rfl c)
  exact ex_cnt (by omega) (by omega) rfl (kk h2 n2 wo2)
set_option maxHeartbeats 4000000 in
theorem lc_sea (hX : ∀ s, X s → va_X b N xs s s.heap ∧ b < s.heap.size) (hb : gU G 3 = some b) (hbN : b ≤ gN G) (hN : N ≤ 384) (hi : i + 6 ≤ N) (wo : WO h n) (hk : k + 28 ≤ MCL) (hs : sl + 4010 ≤ MSL) (kk : ∀ h' n', WO h' n' → EWX X l G x code 4 ret 2048 MCL MSL QL (k + 28) (sl + 4010) h' n' 1235 (LL i) []) : EWX X l G x code 4 ret 2048 MCL MSL QL k sl h n 444 (LL i) [] := by
  obtain ⟨sx, x1⟩ := wo_1 wo
  obtain ⟨Q1, hx, hq⟩ := op_sea (l := l) (G := G)  wo (xs (i + 1)) (xs (i + 2))
  refine ex_aload_n (t := 445) dL_law_444 rfl rfl rfl ?_
  refine ex_aloadU (t := 446) (x := 2) dL_law_445 rfl ⟨b, hb⟩ rfl rfl ?_
  refine ex_iload_n (t := 447) dL_law_446 rfl rfl rfl ?_
  refine ex_ic1 (t := 448) dL_law_447 rfl ?_
  refine ex_iadd (t := 449) dL_law_448 rfl ?_
  refine ex_sald (t := 450) (x := 2) (j := i + 1) hX hb hbN (sc_in (c := 1) (by omega) hN) (sc_cl (c := 1) (N := N) (by omega) hN) dL_law_449 rfl ?_
  refine ex_aloadU (t := 451) (x := 2) dL_law_450 rfl ⟨b, hb⟩ rfl rfl ?_
  refine ex_iload_n (t := 452) dL_law_451 rfl rfl rfl ?_
  refine ex_ic2 (t := 453) dL_law_452 rfl ?_
  refine ex_iadd (t := 454) dL_law_453 rfl ?_
  refine ex_sald (t := 455) (x := 2) (j := i + 2) hX hb hbN (sc_in (c := 2) (by omega) hN) (sc_cl (c := 2) (N := N) (by omega) hN) dL_law_454 rfl ?_
  refine ex_callVW (t := 458) (As := [_, _]) hx (fcX0).1 x1 (by rw [show hdl yX0_sea = [(21, 25, 28, 30)] from by decide +kernel]; exact lw_VW q387 q388 q389 q51 q390) rfl naX0_sea dL_law_455 rfl (Nat.le_of_ble_eq_true rfl) (Nat.le_of_ble_eq_true rfl) (by omega) (by omega) (Nat.le_of_ble_eq_true rfl) rfl (fun r h1 n1 q => ?_)
  obtain ⟨v, rfl, okv, ⟨fs, m33⟩, hm⟩ := hq r h1 n1 q
  obtain ⟨z, rfl⟩ := okv
  refine ex_aload_n (t := 459) dL_law_458 rfl rfl rfl ?_
  refine ex_aloadU (t := 460) (x := 2) dL_law_459 rfl ⟨b, hb⟩ rfl rfl ?_
  refine ex_iload_n (t := 461) dL_law_460 rfl rfl rfl ?_
  refine ex_ic1 (t := 462) dL_law_461 rfl ?_
  refine ex_iadd (t := 463) dL_law_462 rfl ?_
  refine ex_sald (t := 464) (x := 2) (j := i + 1) hX hb hbN (sc_in (c := 1) (by omega) hN) (sc_cl (c := 1) (N := N) (by omega) hN) dL_law_463 rfl ?_
  refine ex_aloadU (t := 465) (x := 2) dL_law_464 rfl ⟨b, hb⟩ rfl rfl ?_
  refine ex_iload_n (t := 466) dL_law_465 rfl rfl rfl ?_
  refine ex_ic2 (t := 467) dL_law_466 rfl ?_
  refine ex_iadd (t := 468) dL_law_467 rfl ?_
  refine ex_sald (t := 469) (x := 2) (j := i + 2) hX hb hbN (sc_in (c := 2) (by omega) hN) (sc_cl (c := 2) (N := N) (by omega) hN) dL_law_468 rfl ?_
  refine ex_callV (t := 472) (As := [_, _]) hm (fcX4).1 m33 (lw_V q1202 q1203 q1204 q60 q1205) rfl naX4_sea dL_law_469 rfl (Nat.le_of_ble_eq_true rfl) (Nat.le_of_ble_eq_true rfl) (by omega) (by omega) (Nat.le_of_ble_eq_true rfl) rfl (fun r2 h2 n2 q2 => ?_)
  obtain ⟨rfl, wo2⟩ := q2
  refine ex_icmp_eq (t := 1235) (t2 := 475) dL_law_472 rfl rfl (fun _ => ?_) (fun c => absurd rfl c)
  exact ex_cnt (by omega) (by omega) rfl (kk h2 n2 wo2)
set_option maxHeartbeats 4000000 in
theorem lc_cell (hX : ∀ s, X s → va_X b N xs s s.heap ∧ b < s.heap.size) (hb : gU G 3 = some b) (hbN : b ≤ gN G) (hN : N ≤ 384) (hi : i + 6 ≤ N) (wo : WO h n) (hk : k + 28 ≤ MCL) (hs : sl + 4010 ≤ MSL) (kk : ∀ h' n', WO h' n' → EWX X l G x code 4 ret 2048 MCL MSL QL (k + 28) (sl + 4010) h' n' 1235 (LL i) []) : EWX X l G x code 4 ret 2048 MCL MSL QL k sl h n 477 (LL i) [] := by
  obtain ⟨sx, x1⟩ := wo_1 wo
  obtain ⟨Q1, hx, hq⟩ := op_cell (l := l) (G := G)  wo (xs (i + 1)) (xs (i + 2)) (xs (i + 3)) (xs (i + 4))
  refine ex_aload_n (t := 478) dL_law_477 rfl rfl rfl ?_
  refine ex_aloadU (t := 479) (x := 2) dL_law_478 rfl ⟨b, hb⟩ rfl rfl ?_
  refine ex_iload_n (t := 480) dL_law_479 rfl rfl rfl ?_
  refine ex_ic1 (t := 481) dL_law_480 rfl ?_
  refine ex_iadd (t := 482) dL_law_481 rfl ?_
  refine ex_sald (t := 483) (x := 2) (j := i + 1) hX hb hbN (sc_in (c := 1) (by omega) hN) (sc_cl (c := 1) (N := N) (by omega) hN) dL_law_482 rfl ?_
  refine ex_aloadU (t := 484) (x := 2) dL_law_483 rfl ⟨b, hb⟩ rfl rfl ?_
  refine ex_iload_n (t := 485) dL_law_484 rfl rfl rfl ?_
  refine ex_ic2 (t := 486) dL_law_485 rfl ?_
  refine ex_iadd (t := 487) dL_law_486 rfl ?_
  refine ex_sald (t := 488) (x := 2) (j := i + 2) hX hb hbN (sc_in (c := 2) (by omega) hN) (sc_cl (c := 2) (N := N) (by omega) hN) dL_law_487 rfl ?_
  refine ex_aloadU (t := 489) (x := 2) dL_law_488 rfl ⟨b, hb⟩ rfl rfl ?_
  refine ex_iload_n (t := 490) dL_law_489 rfl rfl rfl ?_
  refine ex_ic3 (t := 491) dL_law_490 rfl ?_
  refine ex_iadd (t := 492) dL_law_491 rfl ?_
  refine ex_sald (t := 493) (x := 2) (j := i + 3) hX hb hbN (sc_in (c := 3) (by omega) hN) (sc_cl (c := 3) (N := N) (by omega) hN) dL_law_492 rfl ?_
  refine ex_aloadU (t := 494) (x := 2) dL_law_493 rfl ⟨b, hb⟩ rfl rfl ?_
  refine ex_iload_n (t := 495) dL_law_494 rfl rfl rfl ?_
  refine ex_ic4 (t := 496) dL_law_495 rfl ?_
  refine ex_iadd (t := 497) dL_law_496 rfl ?_
  refine ex_sald (t := 498) (x := 2) (j := i + 4) hX hb hbN (sc_in (c := 4) (by omega) hN) (sc_cl (c := 4) (N := N) (by omega) hN) dL_law_497 rfl ?_
  refine ex_callV (t := 501) (As := [_, _, _, _]) hx (fcX0).1 x1 (lw_V q544 q545 q546 q51 q547) rfl naX0_cell dL_law_498 rfl (Nat.le_of_ble_eq_true rfl) (Nat.le_of_ble_eq_true rfl) (by omega) (by omega) (Nat.le_of_ble_eq_true rfl) rfl (fun r h1 n1 q => ?_)
  obtain ⟨v, rfl, okv, ⟨fs, m33⟩, hm⟩ := hq r h1 n1 q
  obtain ⟨z, rfl⟩ := okv
  refine ex_aload_n (t := 502) dL_law_501 rfl rfl rfl ?_
  refine ex_aloadU (t := 503) (x := 2) dL_law_502 rfl ⟨b, hb⟩ rfl rfl ?_
  refine ex_iload_n (t := 504) dL_law_503 rfl rfl rfl ?_
  refine ex_ic1 (t := 505) dL_law_504 rfl ?_
  refine ex_iadd (t := 506) dL_law_505 rfl ?_
  refine ex_sald (t := 507) (x := 2) (j := i + 1) hX hb hbN (sc_in (c := 1) (by omega) hN) (sc_cl (c := 1) (N := N) (by omega) hN) dL_law_506 rfl ?_
  refine ex_aloadU (t := 508) (x := 2) dL_law_507 rfl ⟨b, hb⟩ rfl rfl ?_
  refine ex_iload_n (t := 509) dL_law_508 rfl rfl rfl ?_
  refine ex_ic2 (t := 510) dL_law_509 rfl ?_
  refine ex_iadd (t := 511) dL_law_510 rfl ?_
  refine ex_sald (t := 512) (x := 2) (j := i + 2) hX hb hbN (sc_in (c := 2) (by omega) hN) (sc_cl (c := 2) (N := N) (by omega) hN) dL_law_511 rfl ?_
  refine ex_aloadU (t := 513) (x := 2) dL_law_512 rfl ⟨b, hb⟩ rfl rfl ?_
  refine ex_iload_n (t := 514) dL_law_513 rfl rfl rfl ?_
  refine ex_ic3 (t := 515) dL_law_514 rfl ?_
  refine ex_iadd (t := 516) dL_law_515 rfl ?_
  refine ex_sald (t := 517) (x := 2) (j := i + 3) hX hb hbN (sc_in (c := 3) (by omega) hN) (sc_cl (c := 3) (N := N) (by omega) hN) dL_law_516 rfl ?_
  refine ex_aloadU (t := 518) (x := 2) dL_law_517 rfl ⟨b, hb⟩ rfl rfl ?_
  refine ex_iload_n (t := 519) dL_law_518 rfl rfl rfl ?_
  refine ex_ic4 (t := 520) dL_law_519 rfl ?_
  refine ex_iadd (t := 521) dL_law_520 rfl ?_
  refine ex_sald (t := 522) (x := 2) (j := i + 4) hX hb hbN (sc_in (c := 4) (by omega) hN) (sc_cl (c := 4) (N := N) (by omega) hN) dL_law_521 rfl ?_
  refine ex_callV (t := 525) (As := [_, _, _, _]) hm (fcX4).1 m33 (lw_V q1261 q1262 q1263 q60 q1264) rfl naX4_cell dL_law_522 rfl (Nat.le_of_ble_eq_true rfl) (Nat.le_of_ble_eq_true rfl) (by omega) (by omega) (Nat.le_of_ble_eq_true rfl) rfl (fun r2 h2 n2 q2 => ?_)
  obtain ⟨rfl, wo2⟩ := q2
  refine ex_icmp_eq (t := 1235) (t2 := 528) dL_law_525 rfl rfl (fun _ => ?_) (fun c => absurd rfl c)
  exact ex_cnt (by omega) (by omega) rfl (kk h2 n2 wo2)
set_option maxHeartbeats 4000000 in
theorem lc_depth (hX : ∀ s, X s → va_X b N xs s s.heap ∧ b < s.heap.size) (hb : gU G 3 = some b) (hbN : b ≤ gN G) (hN : N ≤ 384) (hi : i + 6 ≤ N) (wo : WO h n) (hk : k + 28 ≤ MCL) (hs : sl + 4010 ≤ MSL) (kk : ∀ h' n', WO h' n' → EWX X l G x code 4 ret 2048 MCL MSL QL (k + 28) (sl + 4010) h' n' 1235 (LL i) []) : EWX X l G x code 4 ret 2048 MCL MSL QL k sl h n 530 (LL i) [] := by
  obtain ⟨sx, x1⟩ := wo_1 wo
  obtain ⟨Q1, hx, hq⟩ := op_depth (l := l) (G := G)  wo (xs (i + 1)) (xs (i + 2))
  refine ex_aload_n (t := 531) dL_law_530 rfl rfl rfl ?_
  refine ex_aloadU (t := 532) (x := 2) dL_law_531 rfl ⟨b, hb⟩ rfl rfl ?_
  refine ex_iload_n (t := 533) dL_law_532 rfl rfl rfl ?_
  refine ex_ic1 (t := 534) dL_law_533 rfl ?_
  refine ex_iadd (t := 535) dL_law_534 rfl ?_
  refine ex_sald (t := 536) (x := 2) (j := i + 1) hX hb hbN (sc_in (c := 1) (by omega) hN) (sc_cl (c := 1) (N := N) (by omega) hN) dL_law_535 rfl ?_
  refine ex_aloadU (t := 537) (x := 2) dL_law_536 rfl ⟨b, hb⟩ rfl rfl ?_
  refine ex_iload_n (t := 538) dL_law_537 rfl rfl rfl ?_
  refine ex_ic2 (t := 539) dL_law_538 rfl ?_
  refine ex_iadd (t := 540) dL_law_539 rfl ?_
  refine ex_sald (t := 541) (x := 2) (j := i + 2) hX hb hbN (sc_in (c := 2) (by omega) hN) (sc_cl (c := 2) (N := N) (by omega) hN) dL_law_540 rfl ?_
  refine ex_callV (t := 544) (As := [_, _]) hx (fcX0).1 x1 (lw_V q548 q549 q550 q51 q551) rfl naX0_depth dL_law_541 rfl (Nat.le_of_ble_eq_true rfl) (Nat.le_of_ble_eq_true rfl) (by omega) (by omega) (Nat.le_of_ble_eq_true rfl) rfl (fun r h1 n1 q => ?_)
  obtain ⟨v, rfl, okv, ⟨fs, m33⟩, hm⟩ := hq r h1 n1 q
  obtain ⟨z, rfl⟩ := okv
  refine ex_aload_n (t := 545) dL_law_544 rfl rfl rfl ?_
  refine ex_aloadU (t := 546) (x := 2) dL_law_545 rfl ⟨b, hb⟩ rfl rfl ?_
  refine ex_iload_n (t := 547) dL_law_546 rfl rfl rfl ?_
  refine ex_ic1 (t := 548) dL_law_547 rfl ?_
  refine ex_iadd (t := 549) dL_law_548 rfl ?_
  refine ex_sald (t := 550) (x := 2) (j := i + 1) hX hb hbN (sc_in (c := 1) (by omega) hN) (sc_cl (c := 1) (N := N) (by omega) hN) dL_law_549 rfl ?_
  refine ex_aloadU (t := 551) (x := 2) dL_law_550 rfl ⟨b, hb⟩ rfl rfl ?_
  refine ex_iload_n (t := 552) dL_law_551 rfl rfl rfl ?_
  refine ex_ic2 (t := 553) dL_law_552 rfl ?_
  refine ex_iadd (t := 554) dL_law_553 rfl ?_
  refine ex_sald (t := 555) (x := 2) (j := i + 2) hX hb hbN (sc_in (c := 2) (by omega) hN) (sc_cl (c := 2) (N := N) (by omega) hN) dL_law_554 rfl ?_
  refine ex_callV (t := 558) (As := [_, _]) hm (fcX4).1 m33 (lw_V q1265 q1266 q1267 q60 q1268) rfl naX4_depth dL_law_555 rfl (Nat.le_of_ble_eq_true rfl) (Nat.le_of_ble_eq_true rfl) (by omega) (by omega) (Nat.le_of_ble_eq_true rfl) rfl (fun r2 h2 n2 q2 => ?_)
  obtain ⟨rfl, wo2⟩ := q2
  refine ex_icmp_eq (t := 1235) (t2 := 561) dL_law_558 rfl rfl (fun _ => ?_) (fun c => absurd rfl c)
  exact ex_cnt (by omega) (by omega) rfl (kk h2 n2 wo2)
set_option maxHeartbeats 4000000 in
theorem lc_piece (hX : ∀ s, X s → va_X b N xs s s.heap ∧ b < s.heap.size) (hb : gU G 3 = some b) (hbN : b ≤ gN G) (hN : N ≤ 384) (hi : i + 6 ≤ N) (wo : WO h n) (hk : k + 28 ≤ MCL) (hs : sl + 4010 ≤ MSL) (kk : ∀ h' n', WO h' n' → EWX X l G x code 4 ret 2048 MCL MSL QL (k + 28) (sl + 4010) h' n' 1235 (LL i) []) : EWX X l G x code 4 ret 2048 MCL MSL QL k sl h n 563 (LL i) [] := by
  obtain ⟨sx, x1⟩ := wo_1 wo
  obtain ⟨Q1, hx, hq⟩ := op_piece (l := l) (G := G)  wo (xs (i + 1)) (xs (i + 2)) (xs (i + 3)) (xs (i + 4)) (xs (i + 5))
  refine ex_aload_n (t := 564) dL_law_563 rfl rfl rfl ?_
  refine ex_aloadU (t := 565) (x := 2) dL_law_564 rfl ⟨b, hb⟩ rfl rfl ?_
  refine ex_iload_n (t := 566) dL_law_565 rfl rfl rfl ?_
  refine ex_ic1 (t := 567) dL_law_566 rfl ?_
  refine ex_iadd (t := 568) dL_law_567 rfl ?_
  refine ex_sald (t := 569) (x := 2) (j := i + 1) hX hb hbN (sc_in (c := 1) (by omega) hN) (sc_cl (c := 1) (N := N) (by omega) hN) dL_law_568 rfl ?_
  refine ex_aloadU (t := 570) (x := 2) dL_law_569 rfl ⟨b, hb⟩ rfl rfl ?_
  refine ex_iload_n (t := 571) dL_law_570 rfl rfl rfl ?_
  refine ex_ic2 (t := 572) dL_law_571 rfl ?_
  refine ex_iadd (t := 573) dL_law_572 rfl ?_
  refine ex_sald (t := 574) (x := 2) (j := i + 2) hX hb hbN (sc_in (c := 2) (by omega) hN) (sc_cl (c := 2) (N := N) (by omega) hN) dL_law_573 rfl ?_
  refine ex_aloadU (t := 575) (x := 2) dL_law_574 rfl ⟨b, hb⟩ rfl rfl ?_
  refine ex_iload_n (t := 576) dL_law_575 rfl rfl rfl ?_
  refine ex_ic3 (t := 577) dL_law_576 rfl ?_
  refine ex_iadd (t := 578) dL_law_577 rfl ?_
  refine ex_sald (t := 579) (x := 2) (j := i + 3) hX hb hbN (sc_in (c := 3) (by omega) hN) (sc_cl (c := 3) (N := N) (by omega) hN) dL_law_578 rfl ?_
  refine ex_aloadU (t := 580) (x := 2) dL_law_579 rfl ⟨b, hb⟩ rfl rfl ?_
  refine ex_iload_n (t := 581) dL_law_580 rfl rfl rfl ?_
  refine ex_ic4 (t := 582) dL_law_581 rfl ?_
  refine ex_iadd (t := 583) dL_law_582 rfl ?_
  refine ex_sald (t := 584) (x := 2) (j := i + 4) hX hb hbN (sc_in (c := 4) (by omega) hN) (sc_cl (c := 4) (N := N) (by omega) hN) dL_law_583 rfl ?_
  refine ex_aloadU (t := 585) (x := 2) dL_law_584 rfl ⟨b, hb⟩ rfl rfl ?_
  refine ex_iload_n (t := 586) dL_law_585 rfl rfl rfl ?_
  refine ex_ic5 (t := 587) dL_law_586 rfl ?_
  refine ex_iadd (t := 588) dL_law_587 rfl ?_
  refine ex_sald (t := 589) (x := 2) (j := i + 5) hX hb hbN (sc_in (c := 5) (by omega) hN) (sc_cl (c := 5) (N := N) (by omega) hN) dL_law_588 rfl ?_
  refine ex_callV (t := 592) (As := [_, _, _, _, _]) hx (fcX0).1 x1 (lw_V q552 q553 q554 q51 q555) rfl naX0_piece dL_law_589 rfl (Nat.le_of_ble_eq_true rfl) (Nat.le_of_ble_eq_true rfl) (by omega) (by omega) (Nat.le_of_ble_eq_true rfl) rfl (fun r h1 n1 q => ?_)
  obtain ⟨v, rfl, okv, ⟨fs, m33⟩, hm⟩ := hq r h1 n1 q
  obtain ⟨z, rfl⟩ := okv
  refine ex_aload_n (t := 593) dL_law_592 rfl rfl rfl ?_
  refine ex_aloadU (t := 594) (x := 2) dL_law_593 rfl ⟨b, hb⟩ rfl rfl ?_
  refine ex_iload_n (t := 595) dL_law_594 rfl rfl rfl ?_
  refine ex_ic1 (t := 596) dL_law_595 rfl ?_
  refine ex_iadd (t := 597) dL_law_596 rfl ?_
  refine ex_sald (t := 598) (x := 2) (j := i + 1) hX hb hbN (sc_in (c := 1) (by omega) hN) (sc_cl (c := 1) (N := N) (by omega) hN) dL_law_597 rfl ?_
  refine ex_aloadU (t := 599) (x := 2) dL_law_598 rfl ⟨b, hb⟩ rfl rfl ?_
  refine ex_iload_n (t := 600) dL_law_599 rfl rfl rfl ?_
  refine ex_ic2 (t := 601) dL_law_600 rfl ?_
  refine ex_iadd (t := 602) dL_law_601 rfl ?_
  refine ex_sald (t := 603) (x := 2) (j := i + 2) hX hb hbN (sc_in (c := 2) (by omega) hN) (sc_cl (c := 2) (N := N) (by omega) hN) dL_law_602 rfl ?_
  refine ex_aloadU (t := 604) (x := 2) dL_law_603 rfl ⟨b, hb⟩ rfl rfl ?_
  refine ex_iload_n (t := 605) dL_law_604 rfl rfl rfl ?_
  refine ex_ic3 (t := 606) dL_law_605 rfl ?_
  refine ex_iadd (t := 607) dL_law_606 rfl ?_
  refine ex_sald (t := 608) (x := 2) (j := i + 3) hX hb hbN (sc_in (c := 3) (by omega) hN) (sc_cl (c := 3) (N := N) (by omega) hN) dL_law_607 rfl ?_
  refine ex_aloadU (t := 609) (x := 2) dL_law_608 rfl ⟨b, hb⟩ rfl rfl ?_
  refine ex_iload_n (t := 610) dL_law_609 rfl rfl rfl ?_
  refine ex_ic4 (t := 611) dL_law_610 rfl ?_
  refine ex_iadd (t := 612) dL_law_611 rfl ?_
  refine ex_sald (t := 613) (x := 2) (j := i + 4) hX hb hbN (sc_in (c := 4) (by omega) hN) (sc_cl (c := 4) (N := N) (by omega) hN) dL_law_612 rfl ?_
  refine ex_aloadU (t := 614) (x := 2) dL_law_613 rfl ⟨b, hb⟩ rfl rfl ?_
  refine ex_iload_n (t := 615) dL_law_614 rfl rfl rfl ?_
  refine ex_ic5 (t := 616) dL_law_615 rfl ?_
  refine ex_iadd (t := 617) dL_law_616 rfl ?_
  refine ex_sald (t := 618) (x := 2) (j := i + 5) hX hb hbN (sc_in (c := 5) (by omega) hN) (sc_cl (c := 5) (N := N) (by omega) hN) dL_law_617 rfl ?_
  refine ex_callV (t := 621) (As := [_, _, _, _, _]) hm (fcX4).1 m33 (lw_V q1269 q1270 q1271 q60 q1272) rfl naX4_piece dL_law_618 rfl (Nat.le_of_ble_eq_true rfl) (Nat.le_of_ble_eq_true rfl) (by omega) (by omega) (Nat.le_of_ble_eq_true rfl) rfl (fun r2 h2 n2 q2 => ?_)
  obtain ⟨rfl, wo2⟩ := q2
  refine ex_icmp_eq (t := 1235) (t2 := 624) dL_law_621 rfl rfl (fun _ => ?_) (fun c => absurd rfl c)
  exact ex_cnt (by omega) (by omega) rfl (kk h2 n2 wo2)
set_option maxHeartbeats 4000000 in
theorem lc_drift (hX : ∀ s, X s → va_X b N xs s s.heap ∧ b < s.heap.size) (hb : gU G 3 = some b) (hbN : b ≤ gN G) (hN : N ≤ 384) (hi : i + 6 ≤ N) (wo : WO h n) (hk : k + 28 ≤ MCL) (hs : sl + 4010 ≤ MSL) (kk : ∀ h' n', WO h' n' → EWX X l G x code 4 ret 2048 MCL MSL QL (k + 28) (sl + 4010) h' n' 1235 (LL i) []) : EWX X l G x code 4 ret 2048 MCL MSL QL k sl h n 626 (LL i) [] := by
  obtain ⟨sx, x1⟩ := wo_1 wo
  obtain ⟨Q1, hx, hq⟩ := op_drift (l := l) (G := G)  wo (xs (i + 1)) (xs (i + 2)) (xs (i + 3))
  refine ex_aload_n (t := 627) dL_law_626 rfl rfl rfl ?_
  refine ex_aloadU (t := 628) (x := 2) dL_law_627 rfl ⟨b, hb⟩ rfl rfl ?_
  refine ex_iload_n (t := 629) dL_law_628 rfl rfl rfl ?_
  refine ex_ic1 (t := 630) dL_law_629 rfl ?_
  refine ex_iadd (t := 631) dL_law_630 rfl ?_
  refine ex_sald (t := 632) (x := 2) (j := i + 1) hX hb hbN (sc_in (c := 1) (by omega) hN) (sc_cl (c := 1) (N := N) (by omega) hN) dL_law_631 rfl ?_
  refine ex_aloadU (t := 633) (x := 2) dL_law_632 rfl ⟨b, hb⟩ rfl rfl ?_
  refine ex_iload_n (t := 634) dL_law_633 rfl rfl rfl ?_
  refine ex_ic2 (t := 635) dL_law_634 rfl ?_
  refine ex_iadd (t := 636) dL_law_635 rfl ?_
  refine ex_sald (t := 637) (x := 2) (j := i + 2) hX hb hbN (sc_in (c := 2) (by omega) hN) (sc_cl (c := 2) (N := N) (by omega) hN) dL_law_636 rfl ?_
  refine ex_aloadU (t := 638) (x := 2) dL_law_637 rfl ⟨b, hb⟩ rfl rfl ?_
  refine ex_iload_n (t := 639) dL_law_638 rfl rfl rfl ?_
  refine ex_ic3 (t := 640) dL_law_639 rfl ?_
  refine ex_iadd (t := 641) dL_law_640 rfl ?_
  refine ex_sald (t := 642) (x := 2) (j := i + 3) hX hb hbN (sc_in (c := 3) (by omega) hN) (sc_cl (c := 3) (N := N) (by omega) hN) dL_law_641 rfl ?_
  refine ex_callV (t := 645) (As := [_, _, _]) hx (fcX0).1 x1 (lw_V q654 q655 q656 q51 q657) rfl naX0_drift dL_law_642 rfl (Nat.le_of_ble_eq_true rfl) (Nat.le_of_ble_eq_true rfl) (by omega) (by omega) (Nat.le_of_ble_eq_true rfl) rfl (fun r h1 n1 q => ?_)
  obtain ⟨v, rfl, okv, ⟨fs, m33⟩, hm⟩ := hq r h1 n1 q
  obtain ⟨z, rfl⟩ := okv
  refine ex_aload_n (t := 646) dL_law_645 rfl rfl rfl ?_
  refine ex_aloadU (t := 647) (x := 2) dL_law_646 rfl ⟨b, hb⟩ rfl rfl ?_
  refine ex_iload_n (t := 648) dL_law_647 rfl rfl rfl ?_
  refine ex_ic1 (t := 649) dL_law_648 rfl ?_
  refine ex_iadd (t := 650) dL_law_649 rfl ?_
  refine ex_sald (t := 651) (x := 2) (j := i + 1) hX hb hbN (sc_in (c := 1) (by omega) hN) (sc_cl (c := 1) (N := N) (by omega) hN) dL_law_650 rfl ?_
  refine ex_aloadU (t := 652) (x := 2) dL_law_651 rfl ⟨b, hb⟩ rfl rfl ?_
  refine ex_iload_n (t := 653) dL_law_652 rfl rfl rfl ?_
  refine ex_ic2 (t := 654) dL_law_653 rfl ?_
  refine ex_iadd (t := 655) dL_law_654 rfl ?_
  refine ex_sald (t := 656) (x := 2) (j := i + 2) hX hb hbN (sc_in (c := 2) (by omega) hN) (sc_cl (c := 2) (N := N) (by omega) hN) dL_law_655 rfl ?_
  refine ex_aloadU (t := 657) (x := 2) dL_law_656 rfl ⟨b, hb⟩ rfl rfl ?_
  refine ex_iload_n (t := 658) dL_law_657 rfl rfl rfl ?_
  refine ex_ic3 (t := 659) dL_law_658 rfl ?_
  refine ex_iadd (t := 660) dL_law_659 rfl ?_
  refine ex_sald (t := 661) (x := 2) (j := i + 3) hX hb hbN (sc_in (c := 3) (by omega) hN) (sc_cl (c := 3) (N := N) (by omega) hN) dL_law_660 rfl ?_
  refine ex_callV (t := 664) (As := [_, _, _]) hm (fcX4).1 m33 (lw_V q1274 q1275 q1276 q60 q1277) rfl naX4_drift dL_law_661 rfl (Nat.le_of_ble_eq_true rfl) (Nat.le_of_ble_eq_true rfl) (by omega) (by omega) (Nat.le_of_ble_eq_true rfl) rfl (fun r2 h2 n2 q2 => ?_)
  obtain ⟨rfl, wo2⟩ := q2
  refine ex_icmp_eq (t := 1235) (t2 := 667) dL_law_664 rfl rfl (fun _ => ?_) (fun c => absurd rfl c)
  exact ex_cnt (by omega) (by omega) rfl (kk h2 n2 wo2)
set_option maxHeartbeats 4000000 in
theorem lc_fits (hX : ∀ s, X s → va_X b N xs s s.heap ∧ b < s.heap.size) (hb : gU G 3 = some b) (hbN : b ≤ gN G) (hN : N ≤ 384) (hi : i + 6 ≤ N) (wo : WO h n) (hk : k + 28 ≤ MCL) (hs : sl + 4010 ≤ MSL) (kk : ∀ h' n', WO h' n' → EWX X l G x code 4 ret 2048 MCL MSL QL (k + 28) (sl + 4010) h' n' 1235 (LL i) []) : EWX X l G x code 4 ret 2048 MCL MSL QL k sl h n 669 (LL i) [] := by
  obtain ⟨sx, x1⟩ := wo_1 wo
  obtain ⟨Q1, hx, hq⟩ := op_fits (l := l) (G := G)  wo (xs (i + 1)) (xs (i + 2))
  refine ex_aload_n (t := 670) dL_law_669 rfl rfl rfl ?_
  refine ex_aloadU (t := 671) (x := 2) dL_law_670 rfl ⟨b, hb⟩ rfl rfl ?_
  refine ex_iload_n (t := 672) dL_law_671 rfl rfl rfl ?_
  refine ex_ic1 (t := 673) dL_law_672 rfl ?_
  refine ex_iadd (t := 674) dL_law_673 rfl ?_
  refine ex_sald (t := 675) (x := 2) (j := i + 1) hX hb hbN (sc_in (c := 1) (by omega) hN) (sc_cl (c := 1) (N := N) (by omega) hN) dL_law_674 rfl ?_
  refine ex_aloadU (t := 676) (x := 2) dL_law_675 rfl ⟨b, hb⟩ rfl rfl ?_
  refine ex_iload_n (t := 677) dL_law_676 rfl rfl rfl ?_
  refine ex_ic2 (t := 678) dL_law_677 rfl ?_
  refine ex_iadd (t := 679) dL_law_678 rfl ?_
  refine ex_sald (t := 680) (x := 2) (j := i + 2) hX hb hbN (sc_in (c := 2) (by omega) hN) (sc_cl (c := 2) (N := N) (by omega) hN) dL_law_679 rfl ?_
  refine ex_callV (t := 683) (As := [_, _]) hx (fcX0).1 x1 (lw_V q667 q668 q669 q51 q670) rfl naX0_fits dL_law_680 rfl (Nat.le_of_ble_eq_true rfl) (Nat.le_of_ble_eq_true rfl) (by omega) (by omega) (Nat.le_of_ble_eq_true rfl) rfl (fun r h1 n1 q => ?_)
  obtain ⟨v, rfl, okv, ⟨fs, m33⟩, hm⟩ := hq r h1 n1 q
  obtain ⟨z, rfl⟩ := okv
  refine ex_aload_n (t := 684) dL_law_683 rfl rfl rfl ?_
  refine ex_aloadU (t := 685) (x := 2) dL_law_684 rfl ⟨b, hb⟩ rfl rfl ?_
  refine ex_iload_n (t := 686) dL_law_685 rfl rfl rfl ?_
  refine ex_ic1 (t := 687) dL_law_686 rfl ?_
  refine ex_iadd (t := 688) dL_law_687 rfl ?_
  refine ex_sald (t := 689) (x := 2) (j := i + 1) hX hb hbN (sc_in (c := 1) (by omega) hN) (sc_cl (c := 1) (N := N) (by omega) hN) dL_law_688 rfl ?_
  refine ex_aloadU (t := 690) (x := 2) dL_law_689 rfl ⟨b, hb⟩ rfl rfl ?_
  refine ex_iload_n (t := 691) dL_law_690 rfl rfl rfl ?_
  refine ex_ic2 (t := 692) dL_law_691 rfl ?_
  refine ex_iadd (t := 693) dL_law_692 rfl ?_
  refine ex_sald (t := 694) (x := 2) (j := i + 2) hX hb hbN (sc_in (c := 2) (by omega) hN) (sc_cl (c := 2) (N := N) (by omega) hN) dL_law_693 rfl ?_
  refine ex_callV (t := 697) (As := [_, _]) hm (fcX4).1 m33 (lw_V q1286 q1287 q1288 q60 q1289) rfl naX4_fits dL_law_694 rfl (Nat.le_of_ble_eq_true rfl) (Nat.le_of_ble_eq_true rfl) (by omega) (by omega) (Nat.le_of_ble_eq_true rfl) rfl (fun r2 h2 n2 q2 => ?_)
  obtain ⟨rfl, wo2⟩ := q2
  refine ex_icmp_eq (t := 1235) (t2 := 700) dL_law_697 rfl rfl (fun _ => ?_) (fun c => absurd rfl c)
  exact ex_cnt (by omega) (by omega) rfl (kk h2 n2 wo2)
set_option maxHeartbeats 4000000 in
theorem lc_drag (hX : ∀ s, X s → va_X b N xs s s.heap ∧ b < s.heap.size) (hb : gU G 3 = some b) (hbN : b ≤ gN G) (hN : N ≤ 384) (hi : i + 6 ≤ N) (wo : WO h n) (hk : k + 28 ≤ MCL) (hs : sl + 4010 ≤ MSL) (kk : ∀ h' n', WO h' n' → EWX X l G x code 4 ret 2048 MCL MSL QL (k + 28) (sl + 4010) h' n' 1235 (LL i) []) : EWX X l G x code 4 ret 2048 MCL MSL QL k sl h n 702 (LL i) [] := by
  obtain ⟨sx, x1⟩ := wo_1 wo
  obtain ⟨Q1, hx, hq⟩ := op_drag (l := l) (G := G)  wo (xs (i + 1)) (xs (i + 2))
  refine ex_aload_n (t := 703) dL_law_702 rfl rfl rfl ?_
  refine ex_aloadU (t := 704) (x := 2) dL_law_703 rfl ⟨b, hb⟩ rfl rfl ?_
  refine ex_iload_n (t := 705) dL_law_704 rfl rfl rfl ?_
  refine ex_ic1 (t := 706) dL_law_705 rfl ?_
  refine ex_iadd (t := 707) dL_law_706 rfl ?_
  refine ex_sald (t := 708) (x := 2) (j := i + 1) hX hb hbN (sc_in (c := 1) (by omega) hN) (sc_cl (c := 1) (N := N) (by omega) hN) dL_law_707 rfl ?_
  refine ex_aloadU (t := 709) (x := 2) dL_law_708 rfl ⟨b, hb⟩ rfl rfl ?_
  refine ex_iload_n (t := 710) dL_law_709 rfl rfl rfl ?_
  refine ex_ic2 (t := 711) dL_law_710 rfl ?_
  refine ex_iadd (t := 712) dL_law_711 rfl ?_
  refine ex_sald (t := 713) (x := 2) (j := i + 2) hX hb hbN (sc_in (c := 2) (by omega) hN) (sc_cl (c := 2) (N := N) (by omega) hN) dL_law_712 rfl ?_
  refine ex_callV (t := 716) (As := [_, _]) hx (fcX0).1 x1 (lw_V q698 q699 q700 q51 q701) rfl naX0_drag dL_law_713 rfl (Nat.le_of_ble_eq_true rfl) (Nat.le_of_ble_eq_true rfl) (by omega) (by omega) (Nat.le_of_ble_eq_true rfl) rfl (fun r h1 n1 q => ?_)
  obtain ⟨v, rfl, okv, ⟨fs, m33⟩, hm⟩ := hq r h1 n1 q
  obtain ⟨z, rfl⟩ := okv
  refine ex_aload_n (t := 717) dL_law_716 rfl rfl rfl ?_
  refine ex_aloadU (t := 718) (x := 2) dL_law_717 rfl ⟨b, hb⟩ rfl rfl ?_
  refine ex_iload_n (t := 719) dL_law_718 rfl rfl rfl ?_
  refine ex_ic1 (t := 720) dL_law_719 rfl ?_
  refine ex_iadd (t := 721) dL_law_720 rfl ?_
  refine ex_sald (t := 722) (x := 2) (j := i + 1) hX hb hbN (sc_in (c := 1) (by omega) hN) (sc_cl (c := 1) (N := N) (by omega) hN) dL_law_721 rfl ?_
  refine ex_aloadU (t := 723) (x := 2) dL_law_722 rfl ⟨b, hb⟩ rfl rfl ?_
  refine ex_iload_n (t := 724) dL_law_723 rfl rfl rfl ?_
  refine ex_ic2 (t := 725) dL_law_724 rfl ?_
  refine ex_iadd (t := 726) dL_law_725 rfl ?_
  refine ex_sald (t := 727) (x := 2) (j := i + 2) hX hb hbN (sc_in (c := 2) (by omega) hN) (sc_cl (c := 2) (N := N) (by omega) hN) dL_law_726 rfl ?_
  refine ex_callV (t := 730) (As := [_, _]) hm (fcX4).1 m33 (lw_V q1294 q1295 q1296 q60 q1297) rfl naX4_drag dL_law_727 rfl (Nat.le_of_ble_eq_true rfl) (Nat.le_of_ble_eq_true rfl) (by omega) (by omega) (Nat.le_of_ble_eq_true rfl) rfl (fun r2 h2 n2 q2 => ?_)
  obtain ⟨rfl, wo2⟩ := q2
  refine ex_icmp_eq (t := 1235) (t2 := 733) dL_law_730 rfl rfl (fun _ => ?_) (fun c => absurd rfl c)
  exact ex_cnt (by omega) (by omega) rfl (kk h2 n2 wo2)
set_option maxHeartbeats 4000000 in
theorem lc_odds (hX : ∀ s, X s → va_X b N xs s s.heap ∧ b < s.heap.size) (hb : gU G 3 = some b) (hbN : b ≤ gN G) (hN : N ≤ 384) (hi : i + 6 ≤ N) (wo : WO h n) (hk : k + 28 ≤ MCL) (hs : sl + 4010 ≤ MSL) (kk : ∀ h' n', WO h' n' → EWX X l G x code 4 ret 2048 MCL MSL QL (k + 28) (sl + 4010) h' n' 1235 (LL i) []) : EWX X l G x code 4 ret 2048 MCL MSL QL k sl h n 735 (LL i) [] := by
  obtain ⟨sx, x1⟩ := wo_1 wo
  obtain ⟨Q1, hx, hq⟩ := op_odds (l := l) (G := G)  wo (xs (i + 1)) (xs (i + 2))
  refine ex_aload_n (t := 736) dL_law_735 rfl rfl rfl ?_
  refine ex_aloadU (t := 737) (x := 2) dL_law_736 rfl ⟨b, hb⟩ rfl rfl ?_
  refine ex_iload_n (t := 738) dL_law_737 rfl rfl rfl ?_
  refine ex_ic1 (t := 739) dL_law_738 rfl ?_
  refine ex_iadd (t := 740) dL_law_739 rfl ?_
  refine ex_sald (t := 741) (x := 2) (j := i + 1) hX hb hbN (sc_in (c := 1) (by omega) hN) (sc_cl (c := 1) (N := N) (by omega) hN) dL_law_740 rfl ?_
  refine ex_aloadU (t := 742) (x := 2) dL_law_741 rfl ⟨b, hb⟩ rfl rfl ?_
  refine ex_iload_n (t := 743) dL_law_742 rfl rfl rfl ?_
  refine ex_ic2 (t := 744) dL_law_743 rfl ?_
  refine ex_iadd (t := 745) dL_law_744 rfl ?_
  refine ex_sald (t := 746) (x := 2) (j := i + 2) hX hb hbN (sc_in (c := 2) (by omega) hN) (sc_cl (c := 2) (N := N) (by omega) hN) dL_law_745 rfl ?_
  refine ex_callV (t := 749) (As := [_, _]) hx (fcX0).1 x1 (lw_V q729 q730 q731 q51 q732) rfl naX0_odds dL_law_746 rfl (Nat.le_of_ble_eq_true rfl) (Nat.le_of_ble_eq_true rfl) (by omega) (by omega) (Nat.le_of_ble_eq_true rfl) rfl (fun r h1 n1 q => ?_)
  obtain ⟨v, rfl, okv, ⟨fs, m33⟩, hm⟩ := hq r h1 n1 q
  obtain ⟨z, rfl⟩ := okv
  refine ex_aload_n (t := 750) dL_law_749 rfl rfl rfl ?_
  refine ex_aloadU (t := 751) (x := 2) dL_law_750 rfl ⟨b, hb⟩ rfl rfl ?_
  refine ex_iload_n (t := 752) dL_law_751 rfl rfl rfl ?_
  refine ex_ic1 (t := 753) dL_law_752 rfl ?_
  refine ex_iadd (t := 754) dL_law_753 rfl ?_
  refine ex_sald (t := 755) (x := 2) (j := i + 1) hX hb hbN (sc_in (c := 1) (by omega) hN) (sc_cl (c := 1) (N := N) (by omega) hN) dL_law_754 rfl ?_
  refine ex_aloadU (t := 756) (x := 2) dL_law_755 rfl ⟨b, hb⟩ rfl rfl ?_
  refine ex_iload_n (t := 757) dL_law_756 rfl rfl rfl ?_
  refine ex_ic2 (t := 758) dL_law_757 rfl ?_
  refine ex_iadd (t := 759) dL_law_758 rfl ?_
  refine ex_sald (t := 760) (x := 2) (j := i + 2) hX hb hbN (sc_in (c := 2) (by omega) hN) (sc_cl (c := 2) (N := N) (by omega) hN) dL_law_759 rfl ?_
  refine ex_callV (t := 763) (As := [_, _]) hm (fcX4).1 m33 (lw_V q1302 q1303 q1304 q60 q1305) rfl naX4_odds dL_law_760 rfl (Nat.le_of_ble_eq_true rfl) (Nat.le_of_ble_eq_true rfl) (by omega) (by omega) (Nat.le_of_ble_eq_true rfl) rfl (fun r2 h2 n2 q2 => ?_)
  obtain ⟨rfl, wo2⟩ := q2
  refine ex_lcmp_eq (t1 := 764) (t := 1235) (t2 := 767) dL_law_763 rfl dL_law_764 rfl rfl (fun _ => ?_) (fun c => absurd rfl c)
  exact ex_cnt (by omega) (by omega) rfl (kk h2 n2 wo2)
set_option maxHeartbeats 4000000 in
theorem lc_where (hX : ∀ s, X s → va_X b N xs s s.heap ∧ b < s.heap.size) (hb : gU G 3 = some b) (hbN : b ≤ gN G) (hN : N ≤ 384) (hi : i + 6 ≤ N) (wo : WO h n) (hk : k + 28 ≤ MCL) (hs : sl + 4010 ≤ MSL) (kk : ∀ h' n', WO h' n' → EWX X l G x code 4 ret 2048 MCL MSL QL (k + 28) (sl + 4010) h' n' 1235 (LL i) []) : EWX X l G x code 4 ret 2048 MCL MSL QL k sl h n 769 (LL i) [] := by
  obtain ⟨sx, x1⟩ := wo_1 wo
  obtain ⟨Q1, hx, hq⟩ := op_where (l := l) (G := G)  wo (xs (i + 1))
  refine ex_aload_n (t := 770) dL_law_769 rfl rfl rfl ?_
  refine ex_aloadU (t := 771) (x := 2) dL_law_770 rfl ⟨b, hb⟩ rfl rfl ?_
  refine ex_iload_n (t := 772) dL_law_771 rfl rfl rfl ?_
  refine ex_ic1 (t := 773) dL_law_772 rfl ?_
  refine ex_iadd (t := 774) dL_law_773 rfl ?_
  refine ex_sald (t := 775) (x := 2) (j := i + 1) hX hb hbN (sc_in (c := 1) (by omega) hN) (sc_cl (c := 1) (N := N) (by omega) hN) dL_law_774 rfl ?_
  refine ex_callV (t := 778) (As := [_]) hx (fcX0).1 x1 (lw_V q757 q758 q759 q51 q760) rfl naX0_where dL_law_775 rfl (Nat.le_of_ble_eq_true rfl) (Nat.le_of_ble_eq_true rfl) (by omega) (by omega) (Nat.le_of_ble_eq_true rfl) rfl (fun r h1 n1 q => ?_)
  obtain ⟨v, rfl, okv, ⟨fs, m33⟩, hm⟩ := hq r h1 n1 q
  obtain ⟨z, rfl⟩ := okv
  refine ex_aload_n (t := 779) dL_law_778 rfl rfl rfl ?_
  refine ex_aloadU (t := 780) (x := 2) dL_law_779 rfl ⟨b, hb⟩ rfl rfl ?_
  refine ex_iload_n (t := 781) dL_law_780 rfl rfl rfl ?_
  refine ex_ic1 (t := 782) dL_law_781 rfl ?_
  refine ex_iadd (t := 783) dL_law_782 rfl ?_
  refine ex_sald (t := 784) (x := 2) (j := i + 1) hX hb hbN (sc_in (c := 1) (by omega) hN) (sc_cl (c := 1) (N := N) (by omega) hN) dL_law_783 rfl ?_
  refine ex_callV (t := 787) (As := [_]) hm (fcX4).1 m33 (lw_V q1318 q1319 q1320 q60 q1321) rfl naX4_where dL_law_784 rfl (Nat.le_of_ble_eq_true rfl) (Nat.le_of_ble_eq_true rfl) (by omega) (by omega) (Nat.le_of_ble_eq_true rfl) rfl (fun r2 h2 n2 q2 => ?_)
  obtain ⟨rfl, wo2⟩ := q2
  refine ex_icmp_eq (t := 1235) (t2 := 790) dL_law_787 rfl rfl (fun _ => ?_) (fun c => absurd rfl c)
  exact ex_cnt (by omega) (by omega) rfl (kk h2 n2 wo2)
set_option maxHeartbeats 4000000 in
theorem lc_count (hX : ∀ s, X s → va_X b N xs s s.heap ∧ b < s.heap.size) (hb : gU G 3 = some b) (hbN : b ≤ gN G) (hN : N ≤ 384) (hi : i + 6 ≤ N) (wo : WO h n) (hk : k + 28 ≤ MCL) (hs : sl + 4010 ≤ MSL) (kk : ∀ h' n', WO h' n' → EWX X l G x code 4 ret 2048 MCL MSL QL (k + 28) (sl + 4010) h' n' 1235 (LL i) []) : EWX X l G x code 4 ret 2048 MCL MSL QL k sl h n 792 (LL i) [] := by
  obtain ⟨sx, x1⟩ := wo_1 wo
  obtain ⟨Q1, hx, hq⟩ := op_count (l := l) (G := G)  wo (xs (i + 1))
  refine ex_aload_n (t := 793) dL_law_792 rfl rfl rfl ?_
  refine ex_aloadU (t := 794) (x := 2) dL_law_793 rfl ⟨b, hb⟩ rfl rfl ?_
  refine ex_iload_n (t := 795) dL_law_794 rfl rfl rfl ?_
  refine ex_ic1 (t := 796) dL_law_795 rfl ?_
  refine ex_iadd (t := 797) dL_law_796 rfl ?_
  refine ex_sald (t := 798) (x := 2) (j := i + 1) hX hb hbN (sc_in (c := 1) (by omega) hN) (sc_cl (c := 1) (N := N) (by omega) hN) dL_law_797 rfl ?_
  refine ex_callV (t := 801) (As := [_]) hx (fcX0).1 x1 (lw_V q761 q762 q763 q51 q764) rfl naX0_count dL_law_798 rfl (Nat.le_of_ble_eq_true rfl) (Nat.le_of_ble_eq_true rfl) (by omega) (by omega) (Nat.le_of_ble_eq_true rfl) rfl (fun r h1 n1 q => ?_)
  obtain ⟨v, rfl, okv, ⟨fs, m33⟩, hm⟩ := hq r h1 n1 q
  obtain ⟨z, rfl⟩ := okv
  refine ex_aload_n (t := 802) dL_law_801 rfl rfl rfl ?_
  refine ex_aloadU (t := 803) (x := 2) dL_law_802 rfl ⟨b, hb⟩ rfl rfl ?_
  refine ex_iload_n (t := 804) dL_law_803 rfl rfl rfl ?_
  refine ex_ic1 (t := 805) dL_law_804 rfl ?_
  refine ex_iadd (t := 806) dL_law_805 rfl ?_
  refine ex_sald (t := 807) (x := 2) (j := i + 1) hX hb hbN (sc_in (c := 1) (by omega) hN) (sc_cl (c := 1) (N := N) (by omega) hN) dL_law_806 rfl ?_
  refine ex_callV (t := 810) (As := [_]) hm (fcX4).1 m33 (lw_V q1322 q1323 q1324 q60 q1325) rfl naX4_count dL_law_807 rfl (Nat.le_of_ble_eq_true rfl) (Nat.le_of_ble_eq_true rfl) (by omega) (by omega) (Nat.le_of_ble_eq_true rfl) rfl (fun r2 h2 n2 q2 => ?_)
  obtain ⟨rfl, wo2⟩ := q2
  refine ex_icmp_eq (t := 1235) (t2 := 813) dL_law_810 rfl rfl (fun _ => ?_) (fun c => absurd rfl c)
  exact ex_cnt (by omega) (by omega) rfl (kk h2 n2 wo2)
set_option maxHeartbeats 4000000 in
theorem lc_clear (hX : ∀ s, X s → va_X b N xs s s.heap ∧ b < s.heap.size) (hb : gU G 3 = some b) (hbN : b ≤ gN G) (hN : N ≤ 384) (hi : i + 6 ≤ N) (wo : WO h n) (hk : k + 28 ≤ MCL) (hs : sl + 4010 ≤ MSL) (kk : ∀ h' n', WO h' n' → EWX X l G x code 4 ret 2048 MCL MSL QL (k + 28) (sl + 4010) h' n' 1235 (LL i) []) : EWX X l G x code 4 ret 2048 MCL MSL QL k sl h n 815 (LL i) [] := by
  obtain ⟨sx, x1⟩ := wo_1 wo
  obtain ⟨Q1, hx, hq⟩ := op_clear (l := l) (G := G)  wo
  refine ex_aload_n (t := 816) dL_law_815 rfl rfl rfl ?_
  refine ex_callV (t := 819) (As := []) hx (fcX0).1 x1 (lw_V q716 q717 q718 q51 q719) rfl naX0_clear dL_law_816 rfl (Nat.le_of_ble_eq_true rfl) (Nat.le_of_ble_eq_true rfl) (by omega) (by omega) (Nat.le_of_ble_eq_true rfl) rfl (fun r h1 n1 q => ?_)
  obtain ⟨v, rfl, okv, ⟨fs, m33⟩, hm⟩ := hq r h1 n1 q
  obtain ⟨z, rfl⟩ := okv
  refine ex_aload_n (t := 820) dL_law_819 rfl rfl rfl ?_
  refine ex_callV (t := 823) (As := []) hm (fcX4).1 m33 (lw_V q1298 q1299 q1300 q60 q1301) rfl naX4_clear dL_law_820 rfl (Nat.le_of_ble_eq_true rfl) (Nat.le_of_ble_eq_true rfl) (by omega) (by omega) (Nat.le_of_ble_eq_true rfl) rfl (fun r2 h2 n2 q2 => ?_)
  obtain ⟨rfl, wo2⟩ := q2
  refine ex_icmp_eq (t := 1235) (t2 := 826) dL_law_823 rfl rfl (fun _ => ?_) (fun c => absurd rfl c)
  exact ex_cnt (by omega) (by omega) rfl (kk h2 n2 wo2)
set_option maxHeartbeats 4000000 in
theorem lc_moves (hX : ∀ s, X s → va_X b N xs s s.heap ∧ b < s.heap.size) (hb : gU G 3 = some b) (hbN : b ≤ gN G) (hN : N ≤ 384) (hi : i + 6 ≤ N) (wo : WO h n) (hk : k + 28 ≤ MCL) (hs : sl + 4010 ≤ MSL) (kk : ∀ h' n', WO h' n' → EWX X l G x code 4 ret 2048 MCL MSL QL (k + 28) (sl + 4010) h' n' 1235 (LL i) []) : EWX X l G x code 4 ret 2048 MCL MSL QL k sl h n 828 (LL i) [] := by
  obtain ⟨sx, x1⟩ := wo_1 wo
  obtain ⟨Q1, hx, hq⟩ := op_moves (l := l) (G := G)  wo (xs (i + 1))
  refine ex_aload_n (t := 829) dL_law_828 rfl rfl rfl ?_
  refine ex_aloadU (t := 830) (x := 2) dL_law_829 rfl ⟨b, hb⟩ rfl rfl ?_
  refine ex_iload_n (t := 831) dL_law_830 rfl rfl rfl ?_
  refine ex_ic1 (t := 832) dL_law_831 rfl ?_
  refine ex_iadd (t := 833) dL_law_832 rfl ?_
  refine ex_sald (t := 834) (x := 2) (j := i + 1) hX hb hbN (sc_in (c := 1) (by omega) hN) (sc_cl (c := 1) (N := N) (by omega) hN) dL_law_833 rfl ?_
  refine ex_callV (t := 837) (As := [_]) hx (fcX0).1 x1 (lw_V q765 q766 q767 q51 q768) rfl naX0_moves dL_law_834 rfl (Nat.le_of_ble_eq_true rfl) (Nat.le_of_ble_eq_true rfl) (by omega) (by omega) (Nat.le_of_ble_eq_true rfl) rfl (fun r h1 n1 q => ?_)
  obtain ⟨v, rfl, okv, ⟨fs, m33⟩, hm⟩ := hq r h1 n1 q
  obtain ⟨z, rfl⟩ := okv
  refine ex_aload_n (t := 838) dL_law_837 rfl rfl rfl ?_
  refine ex_aloadU (t := 839) (x := 2) dL_law_838 rfl ⟨b, hb⟩ rfl rfl ?_
  refine ex_iload_n (t := 840) dL_law_839 rfl rfl rfl ?_
  refine ex_ic1 (t := 841) dL_law_840 rfl ?_
  refine ex_iadd (t := 842) dL_law_841 rfl ?_
  refine ex_sald (t := 843) (x := 2) (j := i + 1) hX hb hbN (sc_in (c := 1) (by omega) hN) (sc_cl (c := 1) (N := N) (by omega) hN) dL_law_842 rfl ?_
  refine ex_callV (t := 846) (As := [_]) hm (fcX4).1 m33 (lw_V q1327 q1328 q1329 q60 q1330) rfl naX4_moves dL_law_843 rfl (Nat.le_of_ble_eq_true rfl) (Nat.le_of_ble_eq_true rfl) (by omega) (by omega) (Nat.le_of_ble_eq_true rfl) rfl (fun r2 h2 n2 q2 => ?_)
  obtain ⟨rfl, wo2⟩ := q2
  refine ex_icmp_eq (t := 1235) (t2 := 849) dL_law_846 rfl rfl (fun _ => ?_) (fun c => absurd rfl c)
  exact ex_cnt (by omega) (by omega) rfl (kk h2 n2 wo2)
set_option maxHeartbeats 4000000 in
theorem lc_most (hX : ∀ s, X s → va_X b N xs s s.heap ∧ b < s.heap.size) (hb : gU G 3 = some b) (hbN : b ≤ gN G) (hN : N ≤ 384) (hi : i + 6 ≤ N) (wo : WO h n) (hk : k + 28 ≤ MCL) (hs : sl + 4010 ≤ MSL) (kk : ∀ h' n', WO h' n' → EWX X l G x code 4 ret 2048 MCL MSL QL (k + 28) (sl + 4010) h' n' 1235 (LL i) []) : EWX X l G x code 4 ret 2048 MCL MSL QL k sl h n 851 (LL i) [] := by
  obtain ⟨sx, x1⟩ := wo_1 wo
  obtain ⟨Q1, hx, hq⟩ := op_most (l := l) (G := G)  wo
  refine ex_aload_n (t := 852) dL_law_851 rfl rfl rfl ?_
  refine ex_callV (t := 855) (As := []) hx (fcX0).1 x1 (lw_V q781 q782 q783 q51 q784) rfl naX0_most dL_law_852 rfl (Nat.le_of_ble_eq_true rfl) (Nat.le_of_ble_eq_true rfl) (by omega) (by omega) (Nat.le_of_ble_eq_true rfl) rfl (fun r h1 n1 q => ?_)
  obtain ⟨v, rfl, okv, ⟨fs, m33⟩, hm⟩ := hq r h1 n1 q
  obtain ⟨z, rfl⟩ := okv
  refine ex_aload_n (t := 856) dL_law_855 rfl rfl rfl ?_
  refine ex_callV (t := 859) (As := []) hm (fcX4).1 m33 (lw_V q1345 q1346 q1347 q60 q1348) rfl naX4_most dL_law_856 rfl (Nat.le_of_ble_eq_true rfl) (Nat.le_of_ble_eq_true rfl) (by omega) (by omega) (Nat.le_of_ble_eq_true rfl) rfl (fun r2 h2 n2 q2 => ?_)
  obtain ⟨rfl, wo2⟩ := q2
  refine ex_icmp_eq (t := 1235) (t2 := 862) dL_law_859 rfl rfl (fun _ => ?_) (fun c => absurd rfl c)
  exact ex_cnt (by omega) (by omega) rfl (kk h2 n2 wo2)
set_option maxHeartbeats 4000000 in
theorem lc_next (hX : ∀ s, X s → va_X b N xs s s.heap ∧ b < s.heap.size) (hb : gU G 3 = some b) (hbN : b ≤ gN G) (hN : N ≤ 384) (hi : i + 6 ≤ N) (wo : WO h n) (hk : k + 28 ≤ MCL) (hs : sl + 4010 ≤ MSL) (kk : ∀ h' n', WO h' n' → EWX X l G x code 4 ret 2048 MCL MSL QL (k + 28) (sl + 4010) h' n' 1235 (LL i) []) : EWX X l G x code 4 ret 2048 MCL MSL QL k sl h n 864 (LL i) [] := by
  obtain ⟨sx, x1⟩ := wo_1 wo
  obtain ⟨Q1, hx, hq⟩ := op_next (l := l) (G := G)  wo
  refine ex_aload_n (t := 865) dL_law_864 rfl rfl rfl ?_
  refine ex_callV (t := 868) (As := []) hx (fcX0).1 x1 (lw_V q786 q787 q788 q51 q789) rfl naX0_next dL_law_865 rfl (Nat.le_of_ble_eq_true rfl) (Nat.le_of_ble_eq_true rfl) (by omega) (by omega) (Nat.le_of_ble_eq_true rfl) rfl (fun r h1 n1 q => ?_)
  obtain ⟨v, rfl, okv, ⟨fs, m33⟩, hm⟩ := hq r h1 n1 q
  obtain ⟨z, rfl⟩ := okv
  refine ex_aload_n (t := 869) dL_law_868 rfl rfl rfl ?_
  refine ex_callV (t := 872) (As := []) hm (fcX4).1 m33 (lw_V q1349 q1350 q1351 q60 q1352) rfl naX4_next dL_law_869 rfl (Nat.le_of_ble_eq_true rfl) (Nat.le_of_ble_eq_true rfl) (by omega) (by omega) (Nat.le_of_ble_eq_true rfl) rfl (fun r2 h2 n2 q2 => ?_)
  obtain ⟨rfl, wo2⟩ := q2
  refine ex_icmp_eq (t := 1235) (t2 := 875) dL_law_872 rfl rfl (fun _ => ?_) (fun c => absurd rfl c)
  exact ex_cnt (by omega) (by omega) rfl (kk h2 n2 wo2)
set_option maxHeartbeats 4000000 in
theorem lc_should (hX : ∀ s, X s → va_X b N xs s s.heap ∧ b < s.heap.size) (hb : gU G 3 = some b) (hbN : b ≤ gN G) (hN : N ≤ 384) (hi : i + 6 ≤ N) (wo : WO h n) (hk : k + 28 ≤ MCL) (hs : sl + 4010 ≤ MSL) (kk : ∀ h' n', WO h' n' → EWX X l G x code 4 ret 2048 MCL MSL QL (k + 28) (sl + 4010) h' n' 1235 (LL i) []) : EWX X l G x code 4 ret 2048 MCL MSL QL k sl h n 877 (LL i) [] := by
  obtain ⟨sx, x1⟩ := wo_1 wo
  obtain ⟨Q1, hx, hq⟩ := op_should (l := l) (G := G)  wo (xs (i + 1)) (xs (i + 2)) (xs (i + 3)) (xs (i + 4))
  refine ex_aload_n (t := 878) dL_law_877 rfl rfl rfl ?_
  refine ex_aloadU (t := 879) (x := 2) dL_law_878 rfl ⟨b, hb⟩ rfl rfl ?_
  refine ex_iload_n (t := 880) dL_law_879 rfl rfl rfl ?_
  refine ex_ic1 (t := 881) dL_law_880 rfl ?_
  refine ex_iadd (t := 882) dL_law_881 rfl ?_
  refine ex_sald (t := 883) (x := 2) (j := i + 1) hX hb hbN (sc_in (c := 1) (by omega) hN) (sc_cl (c := 1) (N := N) (by omega) hN) dL_law_882 rfl ?_
  refine ex_aloadU (t := 884) (x := 2) dL_law_883 rfl ⟨b, hb⟩ rfl rfl ?_
  refine ex_iload_n (t := 885) dL_law_884 rfl rfl rfl ?_
  refine ex_ic2 (t := 886) dL_law_885 rfl ?_
  refine ex_iadd (t := 887) dL_law_886 rfl ?_
  refine ex_sald (t := 888) (x := 2) (j := i + 2) hX hb hbN (sc_in (c := 2) (by omega) hN) (sc_cl (c := 2) (N := N) (by omega) hN) dL_law_887 rfl ?_
  refine ex_aloadU (t := 889) (x := 2) dL_law_888 rfl ⟨b, hb⟩ rfl rfl ?_
  refine ex_iload_n (t := 890) dL_law_889 rfl rfl rfl ?_
  refine ex_ic3 (t := 891) dL_law_890 rfl ?_
  refine ex_iadd (t := 892) dL_law_891 rfl ?_
  refine ex_sald (t := 893) (x := 2) (j := i + 3) hX hb hbN (sc_in (c := 3) (by omega) hN) (sc_cl (c := 3) (N := N) (by omega) hN) dL_law_892 rfl ?_
  refine ex_aloadU (t := 894) (x := 2) dL_law_893 rfl ⟨b, hb⟩ rfl rfl ?_
  refine ex_iload_n (t := 895) dL_law_894 rfl rfl rfl ?_
  refine ex_ic4 (t := 896) dL_law_895 rfl ?_
  refine ex_iadd (t := 897) dL_law_896 rfl ?_
  refine ex_sald (t := 898) (x := 2) (j := i + 4) hX hb hbN (sc_in (c := 4) (by omega) hN) (sc_cl (c := 4) (N := N) (by omega) hN) dL_law_897 rfl ?_
  refine ex_callV (t := 901) (As := [_, _, _, _]) hx (fcX0).1 x1 (lw_V q794 q795 q796 q51 q797) rfl naX0_should dL_law_898 rfl (Nat.le_of_ble_eq_true rfl) (Nat.le_of_ble_eq_true rfl) (by omega) (by omega) (Nat.le_of_ble_eq_true rfl) rfl (fun r h1 n1 q => ?_)
  obtain ⟨v, rfl, okv, ⟨fs, m33⟩, hm⟩ := hq r h1 n1 q
  obtain ⟨z, rfl⟩ := okv
  refine ex_aload_n (t := 902) dL_law_901 rfl rfl rfl ?_
  refine ex_aloadU (t := 903) (x := 2) dL_law_902 rfl ⟨b, hb⟩ rfl rfl ?_
  refine ex_iload_n (t := 904) dL_law_903 rfl rfl rfl ?_
  refine ex_ic1 (t := 905) dL_law_904 rfl ?_
  refine ex_iadd (t := 906) dL_law_905 rfl ?_
  refine ex_sald (t := 907) (x := 2) (j := i + 1) hX hb hbN (sc_in (c := 1) (by omega) hN) (sc_cl (c := 1) (N := N) (by omega) hN) dL_law_906 rfl ?_
  refine ex_aloadU (t := 908) (x := 2) dL_law_907 rfl ⟨b, hb⟩ rfl rfl ?_
  refine ex_iload_n (t := 909) dL_law_908 rfl rfl rfl ?_
  refine ex_ic2 (t := 910) dL_law_909 rfl ?_
  refine ex_iadd (t := 911) dL_law_910 rfl ?_
  refine ex_sald (t := 912) (x := 2) (j := i + 2) hX hb hbN (sc_in (c := 2) (by omega) hN) (sc_cl (c := 2) (N := N) (by omega) hN) dL_law_911 rfl ?_
  refine ex_aloadU (t := 913) (x := 2) dL_law_912 rfl ⟨b, hb⟩ rfl rfl ?_
  refine ex_iload_n (t := 914) dL_law_913 rfl rfl rfl ?_
  refine ex_ic3 (t := 915) dL_law_914 rfl ?_
  refine ex_iadd (t := 916) dL_law_915 rfl ?_
  refine ex_sald (t := 917) (x := 2) (j := i + 3) hX hb hbN (sc_in (c := 3) (by omega) hN) (sc_cl (c := 3) (N := N) (by omega) hN) dL_law_916 rfl ?_
  refine ex_aloadU (t := 918) (x := 2) dL_law_917 rfl ⟨b, hb⟩ rfl rfl ?_
  refine ex_iload_n (t := 919) dL_law_918 rfl rfl rfl ?_
  refine ex_ic4 (t := 920) dL_law_919 rfl ?_
  refine ex_iadd (t := 921) dL_law_920 rfl ?_
  refine ex_sald (t := 922) (x := 2) (j := i + 4) hX hb hbN (sc_in (c := 4) (by omega) hN) (sc_cl (c := 4) (N := N) (by omega) hN) dL_law_921 rfl ?_
  refine ex_callV (t := 925) (As := [_, _, _, _]) hm (fcX4).1 m33 (lw_V q1353 q1354 q1355 q60 q1356) rfl naX4_should dL_law_922 rfl (Nat.le_of_ble_eq_true rfl) (Nat.le_of_ble_eq_true rfl) (by omega) (by omega) (Nat.le_of_ble_eq_true rfl) rfl (fun r2 h2 n2 q2 => ?_)
  obtain ⟨rfl, wo2⟩ := q2
  refine ex_lcmp_eq (t1 := 926) (t := 1235) (t2 := 929) dL_law_925 rfl dL_law_926 rfl rfl (fun _ => ?_) (fun c => absurd rfl c)
  exact ex_cnt (by omega) (by omega) rfl (kk h2 n2 wo2)
set_option maxHeartbeats 4000000 in
theorem lc_held (hX : ∀ s, X s → va_X b N xs s s.heap ∧ b < s.heap.size) (hb : gU G 3 = some b) (hbN : b ≤ gN G) (hN : N ≤ 384) (hi : i + 6 ≤ N) (wo : WO h n) (hk : k + 28 ≤ MCL) (hs : sl + 4010 ≤ MSL) (kk : ∀ h' n', WO h' n' → EWX X l G x code 4 ret 2048 MCL MSL QL (k + 28) (sl + 4010) h' n' 1235 (LL i) []) : EWX X l G x code 4 ret 2048 MCL MSL QL k sl h n 931 (LL i) [] := by
  obtain ⟨sx, x1⟩ := wo_1 wo
  obtain ⟨Q1, hx, hq⟩ := op_held (l := l) (G := G)  wo (xs (i + 1)) (xs (i + 2)) (xs (i + 3))
  refine ex_aload_n (t := 932) dL_law_931 rfl rfl rfl ?_
  refine ex_aloadU (t := 933) (x := 2) dL_law_932 rfl ⟨b, hb⟩ rfl rfl ?_
  refine ex_iload_n (t := 934) dL_law_933 rfl rfl rfl ?_
  refine ex_ic1 (t := 935) dL_law_934 rfl ?_
  refine ex_iadd (t := 936) dL_law_935 rfl ?_
  refine ex_sald (t := 937) (x := 2) (j := i + 1) hX hb hbN (sc_in (c := 1) (by omega) hN) (sc_cl (c := 1) (N := N) (by omega) hN) dL_law_936 rfl ?_
  refine ex_aloadU (t := 938) (x := 2) dL_law_937 rfl ⟨b, hb⟩ rfl rfl ?_
  refine ex_iload_n (t := 939) dL_law_938 rfl rfl rfl ?_
  refine ex_ic2 (t := 940) dL_law_939 rfl ?_
  refine ex_iadd (t := 941) dL_law_940 rfl ?_
  refine ex_sald (t := 942) (x := 2) (j := i + 2) hX hb hbN (sc_in (c := 2) (by omega) hN) (sc_cl (c := 2) (N := N) (by omega) hN) dL_law_941 rfl ?_
  refine ex_aloadU (t := 943) (x := 2) dL_law_942 rfl ⟨b, hb⟩ rfl rfl ?_
  refine ex_iload_n (t := 944) dL_law_943 rfl rfl rfl ?_
  refine ex_ic3 (t := 945) dL_law_944 rfl ?_
  refine ex_iadd (t := 946) dL_law_945 rfl ?_
  refine ex_sald (t := 947) (x := 2) (j := i + 3) hX hb hbN (sc_in (c := 3) (by omega) hN) (sc_cl (c := 3) (N := N) (by omega) hN) dL_law_946 rfl ?_
  refine ex_callV (t := 950) (As := [_, _, _]) hx (fcX0).1 x1 (lw_V q798 q799 q800 q51 q801) rfl naX0_held dL_law_947 rfl (Nat.le_of_ble_eq_true rfl) (Nat.le_of_ble_eq_true rfl) (by omega) (by omega) (Nat.le_of_ble_eq_true rfl) rfl (fun r h1 n1 q => ?_)
  obtain ⟨v, rfl, okv, ⟨fs, m33⟩, hm⟩ := hq r h1 n1 q
  obtain ⟨z, rfl⟩ := okv
  refine ex_aload_n (t := 951) dL_law_950 rfl rfl rfl ?_
  refine ex_aloadU (t := 952) (x := 2) dL_law_951 rfl ⟨b, hb⟩ rfl rfl ?_
  refine ex_iload_n (t := 953) dL_law_952 rfl rfl rfl ?_
  refine ex_ic1 (t := 954) dL_law_953 rfl ?_
  refine ex_iadd (t := 955) dL_law_954 rfl ?_
  refine ex_sald (t := 956) (x := 2) (j := i + 1) hX hb hbN (sc_in (c := 1) (by omega) hN) (sc_cl (c := 1) (N := N) (by omega) hN) dL_law_955 rfl ?_
  refine ex_aloadU (t := 957) (x := 2) dL_law_956 rfl ⟨b, hb⟩ rfl rfl ?_
  refine ex_iload_n (t := 958) dL_law_957 rfl rfl rfl ?_
  refine ex_ic2 (t := 959) dL_law_958 rfl ?_
  refine ex_iadd (t := 960) dL_law_959 rfl ?_
  refine ex_sald (t := 961) (x := 2) (j := i + 2) hX hb hbN (sc_in (c := 2) (by omega) hN) (sc_cl (c := 2) (N := N) (by omega) hN) dL_law_960 rfl ?_
  refine ex_aloadU (t := 962) (x := 2) dL_law_961 rfl ⟨b, hb⟩ rfl rfl ?_
  refine ex_iload_n (t := 963) dL_law_962 rfl rfl rfl ?_
  refine ex_ic3 (t := 964) dL_law_963 rfl ?_
  refine ex_iadd (t := 965) dL_law_964 rfl ?_
  refine ex_sald (t := 966) (x := 2) (j := i + 3) hX hb hbN (sc_in (c := 3) (by omega) hN) (sc_cl (c := 3) (N := N) (by omega) hN) dL_law_965 rfl ?_
  refine ex_callV (t := 969) (As := [_, _, _]) hm (fcX4).1 m33 (lw_V q1357 q1358 q1359 q60 q1360) rfl naX4_held dL_law_966 rfl (Nat.le_of_ble_eq_true rfl) (Nat.le_of_ble_eq_true rfl) (by omega) (by omega) (Nat.le_of_ble_eq_true rfl) rfl (fun r2 h2 n2 q2 => ?_)
  obtain ⟨rfl, wo2⟩ := q2
  refine ex_icmp_eq (t := 1235) (t2 := 972) dL_law_969 rfl rfl (fun _ => ?_) (fun c => absurd rfl c)
  exact ex_cnt (by omega) (by omega) rfl (kk h2 n2 wo2)
set_option maxHeartbeats 4000000 in
theorem lc_image (hX : ∀ s, X s → va_X b N xs s s.heap ∧ b < s.heap.size) (hb : gU G 3 = some b) (hbN : b ≤ gN G) (hN : N ≤ 384) (hi : i + 6 ≤ N) (wo : WO h n) (hk : k + 28 ≤ MCL) (hs : sl + 4010 ≤ MSL) (kk : ∀ h' n', WO h' n' → EWX X l G x code 4 ret 2048 MCL MSL QL (k + 28) (sl + 4010) h' n' 1235 (LL i) []) : EWX X l G x code 4 ret 2048 MCL MSL QL k sl h n 974 (LL i) [] := by
  obtain ⟨sx, x1⟩ := wo_1 wo
  obtain ⟨Q1, hx, hq⟩ := op_image (l := l) (G := G)  wo
  refine ex_aload_n (t := 975) dL_law_974 rfl rfl rfl ?_
  refine ex_callV (t := 978) (As := []) hx (fcX0).1 x1 (lw_V q858 q859 q860 q51 q861) rfl naX0_image dL_law_975 rfl (Nat.le_of_ble_eq_true rfl) (Nat.le_of_ble_eq_true rfl) (by omega) (by omega) (Nat.le_of_ble_eq_true rfl) rfl (fun r h1 n1 q => ?_)
  obtain ⟨v, rfl, okv, ⟨fs, m33⟩, hm⟩ := hq r h1 n1 q
  obtain ⟨z, rfl⟩ := okv
  refine ex_aload_n (t := 979) dL_law_978 rfl rfl rfl ?_
  refine ex_callV (t := 982) (As := []) hm (fcX4).1 m33 (lw_V q1376 q1377 q1378 q60 q1379) rfl naX4_image dL_law_979 rfl (Nat.le_of_ble_eq_true rfl) (Nat.le_of_ble_eq_true rfl) (by omega) (by omega) (Nat.le_of_ble_eq_true rfl) rfl (fun r2 h2 n2 q2 => ?_)
  obtain ⟨rfl, wo2⟩ := q2
  refine ex_icmp_eq (t := 1235) (t2 := 985) dL_law_982 rfl rfl (fun _ => ?_) (fun c => absurd rfl c)
  exact ex_cnt (by omega) (by omega) rfl (kk h2 n2 wo2)
set_option maxHeartbeats 4000000 in
theorem lc_restore (hX : ∀ s, X s → va_X b N xs s s.heap ∧ b < s.heap.size) (hb : gU G 3 = some b) (hbN : b ≤ gN G) (hN : N ≤ 384) (hi : i + 6 ≤ N) (wo : WO h n) (hk : k + 28 ≤ MCL) (hs : sl + 4010 ≤ MSL) (kk : ∀ h' n', WO h' n' → EWX X l G x code 4 ret 2048 MCL MSL QL (k + 28) (sl + 4010) h' n' 1235 (LL i) []) : EWX X l G x code 4 ret 2048 MCL MSL QL k sl h n 987 (LL i) [] := by
  obtain ⟨sx, x1⟩ := wo_1 wo
  obtain ⟨Q1, hx, hq⟩ := op_restore (l := l) (G := G)  wo
  refine ex_aload_n (t := 988) dL_law_987 rfl rfl rfl ?_
  refine ex_callV (t := 991) (As := []) hx (fcX0).1 x1 (lw_V q889 q890 q891 q51 q892) rfl naX0_restore dL_law_988 rfl (Nat.le_of_ble_eq_true rfl) (Nat.le_of_ble_eq_true rfl) (by omega) (by omega) (Nat.le_of_ble_eq_true rfl) rfl (fun r h1 n1 q => ?_)
  obtain ⟨v, rfl, okv, ⟨fs, m33⟩, hm⟩ := hq r h1 n1 q
  obtain ⟨z, rfl⟩ := okv
  refine ex_aload_n (t := 992) dL_law_991 rfl rfl rfl ?_
  refine ex_callV (t := 995) (As := []) hm (fcX4).1 m33 (lw_V q1383 q1384 q1385 q60 q1386) rfl naX4_restore dL_law_992 rfl (Nat.le_of_ble_eq_true rfl) (Nat.le_of_ble_eq_true rfl) (by omega) (by omega) (Nat.le_of_ble_eq_true rfl) rfl (fun r2 h2 n2 q2 => ?_)
  obtain ⟨rfl, wo2⟩ := q2
  refine ex_icmp_eq (t := 1235) (t2 := 998) dL_law_995 rfl rfl (fun _ => ?_) (fun c => absurd rfl c)
  exact ex_cnt (by omega) (by omega) rfl (kk h2 n2 wo2)
set_option maxHeartbeats 4000000 in
theorem lc_sheet (hfl : noTr l) (hX : ∀ s, X s → va_X b N xs s s.heap ∧ b < s.heap.size) (hb : gU G 3 = some b) (hbN : b ≤ gN G) (hN : N ≤ 384) (hi : i + 6 ≤ N) (wo : WO h n) (hk : k + 28 ≤ MCL) (hs : sl + 4010 ≤ MSL) (kk : ∀ h' n', WO h' n' → EWX X l G x code 4 ret 2048 MCL MSL QL (k + 28) (sl + 4010) h' n' 1235 (LL i) []) : EWX X l G x code 4 ret 2048 MCL MSL QL k sl h n 1000 (LL i) [] := by
  obtain ⟨sx, x1⟩ := wo_1 wo
  obtain ⟨Q1, hx, hq⟩ := op_sheet (l := l) (G := G) hfl wo (xs (i + 1)) (xs (i + 2)) (xs (i + 3))
  refine ex_aload_n (t := 1001) dL_law_1000 rfl rfl rfl ?_
  refine ex_aloadU (t := 1002) (x := 2) dL_law_1001 rfl ⟨b, hb⟩ rfl rfl ?_
  refine ex_iload_n (t := 1003) dL_law_1002 rfl rfl rfl ?_
  refine ex_ic1 (t := 1004) dL_law_1003 rfl ?_
  refine ex_iadd (t := 1005) dL_law_1004 rfl ?_
  refine ex_sald (t := 1006) (x := 2) (j := i + 1) hX hb hbN (sc_in (c := 1) (by omega) hN) (sc_cl (c := 1) (N := N) (by omega) hN) dL_law_1005 rfl ?_
  refine ex_aloadU (t := 1007) (x := 2) dL_law_1006 rfl ⟨b, hb⟩ rfl rfl ?_
  refine ex_iload_n (t := 1008) dL_law_1007 rfl rfl rfl ?_
  refine ex_ic2 (t := 1009) dL_law_1008 rfl ?_
  refine ex_iadd (t := 1010) dL_law_1009 rfl ?_
  refine ex_sald (t := 1011) (x := 2) (j := i + 2) hX hb hbN (sc_in (c := 2) (by omega) hN) (sc_cl (c := 2) (N := N) (by omega) hN) dL_law_1010 rfl ?_
  refine ex_aloadU (t := 1012) (x := 2) dL_law_1011 rfl ⟨b, hb⟩ rfl rfl ?_
  refine ex_iload_n (t := 1013) dL_law_1012 rfl rfl rfl ?_
  refine ex_ic3 (t := 1014) dL_law_1013 rfl ?_
  refine ex_iadd (t := 1015) dL_law_1014 rfl ?_
  refine ex_sald (t := 1016) (x := 2) (j := i + 3) hX hb hbN (sc_in (c := 3) (by omega) hN) (sc_cl (c := 3) (N := N) (by omega) hN) dL_law_1015 rfl ?_
  refine ex_callVW (t := 1019) (As := [_, _, _]) hx (fcX0).1 x1 (by rw [show hdl yX0_sheet = [(22, 55, 58, 365)] from by decide +kernel]; exact lw_VW q893 q894 q895 q51 q896) rfl naX0_sheet dL_law_1016 rfl (Nat.le_of_ble_eq_true rfl) (Nat.le_of_ble_eq_true rfl) (by omega) (by omega) (Nat.le_of_ble_eq_true rfl) rfl (fun r h1 n1 q => ?_)
  obtain ⟨v, rfl, okv, ⟨fs, m33⟩, hm⟩ := hq r h1 n1 q
  obtain ⟨z, rfl⟩ := okv
  refine ex_aload_n (t := 1020) dL_law_1019 rfl rfl rfl ?_
  refine ex_aloadU (t := 1021) (x := 2) dL_law_1020 rfl ⟨b, hb⟩ rfl rfl ?_
  refine ex_iload_n (t := 1022) dL_law_1021 rfl rfl rfl ?_
  refine ex_ic1 (t := 1023) dL_law_1022 rfl ?_
  refine ex_iadd (t := 1024) dL_law_1023 rfl ?_
  refine ex_sald (t := 1025) (x := 2) (j := i + 1) hX hb hbN (sc_in (c := 1) (by omega) hN) (sc_cl (c := 1) (N := N) (by omega) hN) dL_law_1024 rfl ?_
  refine ex_aloadU (t := 1026) (x := 2) dL_law_1025 rfl ⟨b, hb⟩ rfl rfl ?_
  refine ex_iload_n (t := 1027) dL_law_1026 rfl rfl rfl ?_
  refine ex_ic2 (t := 1028) dL_law_1027 rfl ?_
  refine ex_iadd (t := 1029) dL_law_1028 rfl ?_
  refine ex_sald (t := 1030) (x := 2) (j := i + 2) hX hb hbN (sc_in (c := 2) (by omega) hN) (sc_cl (c := 2) (N := N) (by omega) hN) dL_law_1029 rfl ?_
  refine ex_aloadU (t := 1031) (x := 2) dL_law_1030 rfl ⟨b, hb⟩ rfl rfl ?_
  refine ex_iload_n (t := 1032) dL_law_1031 rfl rfl rfl ?_
  refine ex_ic3 (t := 1033) dL_law_1032 rfl ?_
  refine ex_iadd (t := 1034) dL_law_1033 rfl ?_
  refine ex_sald (t := 1035) (x := 2) (j := i + 3) hX hb hbN (sc_in (c := 3) (by omega) hN) (sc_cl (c := 3) (N := N) (by omega) hN) dL_law_1034 rfl ?_
  refine ex_callV (t := 1038) (As := [_, _, _]) hm (fcX4).1 m33 (lw_V q1390 q1391 q1392 q60 q1393) rfl naX4_sheet dL_law_1035 rfl (Nat.le_of_ble_eq_true rfl) (Nat.le_of_ble_eq_true rfl) (by omega) (by omega) (Nat.le_of_ble_eq_true rfl) rfl (fun r2 h2 n2 q2 => ?_)
  obtain ⟨rfl, wo2⟩ := q2
  refine ex_icmp_eq (t := 1235) (t2 := 1041) dL_law_1038 rfl rfl (fun _ => ?_) (fun c => absurd rfl c)
  exact ex_cnt (by omega) (by omega) rfl (kk h2 n2 wo2)
set_option maxHeartbeats 4000000 in
theorem lc_drop (hX : ∀ s, X s → va_X b N xs s s.heap ∧ b < s.heap.size) (hb : gU G 3 = some b) (hbN : b ≤ gN G) (hN : N ≤ 384) (hi : i + 6 ≤ N) (wo : WO h n) (hk : k + 28 ≤ MCL) (hs : sl + 4010 ≤ MSL) (kk : ∀ h' n', WO h' n' → EWX X l G x code 4 ret 2048 MCL MSL QL (k + 28) (sl + 4010) h' n' 1235 (LL i) []) : EWX X l G x code 4 ret 2048 MCL MSL QL k sl h n 1043 (LL i) [] := by
  obtain ⟨sx, x1⟩ := wo_1 wo
  obtain ⟨Q1, hx, hq⟩ := op_drop (l := l) (G := G)  wo (xs (i + 1))
  refine ex_aload_n (t := 1044) dL_law_1043 rfl rfl rfl ?_
  refine ex_aloadU (t := 1045) (x := 2) dL_law_1044 rfl ⟨b, hb⟩ rfl rfl ?_
  refine ex_iload_n (t := 1046) dL_law_1045 rfl rfl rfl ?_
  refine ex_ic1 (t := 1047) dL_law_1046 rfl ?_
  refine ex_iadd (t := 1048) dL_law_1047 rfl ?_
  refine ex_sald (t := 1049) (x := 2) (j := i + 1) hX hb hbN (sc_in (c := 1) (by omega) hN) (sc_cl (c := 1) (N := N) (by omega) hN) dL_law_1048 rfl ?_
  refine ex_callV (t := 1052) (As := [_]) hx (fcX0).1 x1 (lw_V q927 q928 q929 q51 q930) rfl naX0_drop dL_law_1049 rfl (Nat.le_of_ble_eq_true rfl) (Nat.le_of_ble_eq_true rfl) (by omega) (by omega) (Nat.le_of_ble_eq_true rfl) rfl (fun r h1 n1 q => ?_)
  obtain ⟨v, rfl, okv, ⟨fs, m33⟩, hm⟩ := hq r h1 n1 q
  obtain ⟨z, rfl⟩ := okv
  refine ex_aload_n (t := 1053) dL_law_1052 rfl rfl rfl ?_
  refine ex_aloadU (t := 1054) (x := 2) dL_law_1053 rfl ⟨b, hb⟩ rfl rfl ?_
  refine ex_iload_n (t := 1055) dL_law_1054 rfl rfl rfl ?_
  refine ex_ic1 (t := 1056) dL_law_1055 rfl ?_
  refine ex_iadd (t := 1057) dL_law_1056 rfl ?_
  refine ex_sald (t := 1058) (x := 2) (j := i + 1) hX hb hbN (sc_in (c := 1) (by omega) hN) (sc_cl (c := 1) (N := N) (by omega) hN) dL_law_1057 rfl ?_
  refine ex_callV (t := 1061) (As := [_]) hm (fcX4).1 m33 (lw_V q1394 q1395 q1396 q60 q1397) rfl naX4_drop dL_law_1058 rfl (Nat.le_of_ble_eq_true rfl) (Nat.le_of_ble_eq_true rfl) (by omega) (by omega) (Nat.le_of_ble_eq_true rfl) rfl (fun r2 h2 n2 q2 => ?_)
  obtain ⟨rfl, wo2⟩ := q2
  refine ex_icmp_eq (t := 1235) (t2 := 1064) dL_law_1061 rfl rfl (fun _ => ?_) (fun c => absurd rfl c)
  exact ex_cnt (by omega) (by omega) rfl (kk h2 n2 wo2)
set_option maxHeartbeats 4000000 in
theorem lc_item (hfl : noTr l) (hX : ∀ s, X s → va_X b N xs s s.heap ∧ b < s.heap.size) (hb : gU G 3 = some b) (hbN : b ≤ gN G) (hN : N ≤ 384) (hi : i + 6 ≤ N) (wo : WO h n) (hk : k + 28 ≤ MCL) (hs : sl + 4010 ≤ MSL) (kk : ∀ h' n', WO h' n' → EWX X l G x code 4 ret 2048 MCL MSL QL (k + 28) (sl + 4010) h' n' 1235 (LL i) []) : EWX X l G x code 4 ret 2048 MCL MSL QL k sl h n 1066 (LL i) [] := by
  obtain ⟨sx, x1⟩ := wo_1 wo
  obtain ⟨Q1, hx, hq⟩ := op_item (l := l) (G := G) hfl wo (xs (i + 1)) (xs (i + 2)) (xs (i + 3)) (xs (i + 4))
  refine ex_aload_n (t := 1067) dL_law_1066 rfl rfl rfl ?_
  refine ex_aloadU (t := 1068) (x := 2) dL_law_1067 rfl ⟨b, hb⟩ rfl rfl ?_
  refine ex_iload_n (t := 1069) dL_law_1068 rfl rfl rfl ?_
  refine ex_ic1 (t := 1070) dL_law_1069 rfl ?_
  refine ex_iadd (t := 1071) dL_law_1070 rfl ?_
  refine ex_sald (t := 1072) (x := 2) (j := i + 1) hX hb hbN (sc_in (c := 1) (by omega) hN) (sc_cl (c := 1) (N := N) (by omega) hN) dL_law_1071 rfl ?_
  refine ex_aloadU (t := 1073) (x := 2) dL_law_1072 rfl ⟨b, hb⟩ rfl rfl ?_
  refine ex_iload_n (t := 1074) dL_law_1073 rfl rfl rfl ?_
  refine ex_ic2 (t := 1075) dL_law_1074 rfl ?_
  refine ex_iadd (t := 1076) dL_law_1075 rfl ?_
  refine ex_sald (t := 1077) (x := 2) (j := i + 2) hX hb hbN (sc_in (c := 2) (by omega) hN) (sc_cl (c := 2) (N := N) (by omega) hN) dL_law_1076 rfl ?_
  refine ex_aloadU (t := 1078) (x := 2) dL_law_1077 rfl ⟨b, hb⟩ rfl rfl ?_
  refine ex_iload_n (t := 1079) dL_law_1078 rfl rfl rfl ?_
  refine ex_ic3 (t := 1080) dL_law_1079 rfl ?_
  refine ex_iadd (t := 1081) dL_law_1080 rfl ?_
  refine ex_sald (t := 1082) (x := 2) (j := i + 3) hX hb hbN (sc_in (c := 3) (by omega) hN) (sc_cl (c := 3) (N := N) (by omega) hN) dL_law_1081 rfl ?_
  refine ex_aloadU (t := 1083) (x := 2) dL_law_1082 rfl ⟨b, hb⟩ rfl rfl ?_
  refine ex_iload_n (t := 1084) dL_law_1083 rfl rfl rfl ?_
  refine ex_ic4 (t := 1085) dL_law_1084 rfl ?_
  refine ex_iadd (t := 1086) dL_law_1085 rfl ?_
  refine ex_sald (t := 1087) (x := 2) (j := i + 4) hX hb hbN (sc_in (c := 4) (by omega) hN) (sc_cl (c := 4) (N := N) (by omega) hN) dL_law_1086 rfl ?_
  refine ex_callVW (t := 1090) (As := [_, _, _, _]) hx (fcX0).1 x1 (by rw [show hdl yX0_item = [(16, 100, 103, 371), (16, 100, 108, 373), (16, 100, 113, 375)] from by decide +kernel]; exact lw_VW q931 q932 q933 q51 q934) rfl naX0_item dL_law_1087 rfl (Nat.le_of_ble_eq_true rfl) (Nat.le_of_ble_eq_true rfl) (by omega) (by omega) (Nat.le_of_ble_eq_true rfl) rfl (fun r h1 n1 q => ?_)
  obtain ⟨v, rfl, okv, ⟨fs, m33⟩, hm⟩ := hq r h1 n1 q
  obtain ⟨z, rfl⟩ := okv
  refine ex_aload_n (t := 1091) dL_law_1090 rfl rfl rfl ?_
  refine ex_aloadU (t := 1092) (x := 2) dL_law_1091 rfl ⟨b, hb⟩ rfl rfl ?_
  refine ex_iload_n (t := 1093) dL_law_1092 rfl rfl rfl ?_
  refine ex_ic1 (t := 1094) dL_law_1093 rfl ?_
  refine ex_iadd (t := 1095) dL_law_1094 rfl ?_
  refine ex_sald (t := 1096) (x := 2) (j := i + 1) hX hb hbN (sc_in (c := 1) (by omega) hN) (sc_cl (c := 1) (N := N) (by omega) hN) dL_law_1095 rfl ?_
  refine ex_aloadU (t := 1097) (x := 2) dL_law_1096 rfl ⟨b, hb⟩ rfl rfl ?_
  refine ex_iload_n (t := 1098) dL_law_1097 rfl rfl rfl ?_
  refine ex_ic2 (t := 1099) dL_law_1098 rfl ?_
  refine ex_iadd (t := 1100) dL_law_1099 rfl ?_
  refine ex_sald (t := 1101) (x := 2) (j := i + 2) hX hb hbN (sc_in (c := 2) (by omega) hN) (sc_cl (c := 2) (N := N) (by omega) hN) dL_law_1100 rfl ?_
  refine ex_aloadU (t := 1102) (x := 2) dL_law_1101 rfl ⟨b, hb⟩ rfl rfl ?_
  refine ex_iload_n (t := 1103) dL_law_1102 rfl rfl rfl ?_
  refine ex_ic3 (t := 1104) dL_law_1103 rfl ?_
  refine ex_iadd (t := 1105) dL_law_1104 rfl ?_
  refine ex_sald (t := 1106) (x := 2) (j := i + 3) hX hb hbN (sc_in (c := 3) (by omega) hN) (sc_cl (c := 3) (N := N) (by omega) hN) dL_law_1105 rfl ?_
  refine ex_aloadU (t := 1107) (x := 2) dL_law_1106 rfl ⟨b, hb⟩ rfl rfl ?_
  refine ex_iload_n (t := 1108) dL_law_1107 rfl rfl rfl ?_
  refine ex_ic4 (t := 1109) dL_law_1108 rfl ?_
  refine ex_iadd (t := 1110) dL_law_1109 rfl ?_
  refine ex_sald (t := 1111) (x := 2) (j := i + 4) hX hb hbN (sc_in (c := 4) (by omega) hN) (sc_cl (c := 4) (N := N) (by omega) hN) dL_law_1110 rfl ?_
  refine ex_callV (t := 1114) (As := [_, _, _, _]) hm (fcX4).1 m33 (lw_V q1398 q1399 q1400 q60 q1401) rfl naX4_item dL_law_1111 rfl (Nat.le_of_ble_eq_true rfl) (Nat.le_of_ble_eq_true rfl) (by omega) (by omega) (Nat.le_of_ble_eq_true rfl) rfl (fun r2 h2 n2 q2 => ?_)
  obtain ⟨rfl, wo2⟩ := q2
  refine ex_icmp_eq (t := 1235) (t2 := 1117) dL_law_1114 rfl rfl (fun _ => ?_) (fun c => absurd rfl c)
  exact ex_cnt (by omega) (by omega) rfl (kk h2 n2 wo2)
set_option maxHeartbeats 4000000 in
theorem lc_film (hX : ∀ s, X s → va_X b N xs s s.heap ∧ b < s.heap.size) (hb : gU G 3 = some b) (hbN : b ≤ gN G) (hN : N ≤ 384) (hi : i + 6 ≤ N) (wo : WO h n) (hk : k + 28 ≤ MCL) (hs : sl + 4010 ≤ MSL) (kk : ∀ h' n', WO h' n' → EWX X l G x code 4 ret 2048 MCL MSL QL (k + 28) (sl + 4010) h' n' 1235 (LL i) []) : EWX X l G x code 4 ret 2048 MCL MSL QL k sl h n 1119 (LL i) [] := by
  obtain ⟨sx, x1⟩ := wo_1 wo
  obtain ⟨Q1, hx, hq⟩ := op_film (l := l) (G := G)  wo (xs (i + 1)) (xs (i + 2)) (xs (i + 3)) (xs (i + 4))
  refine ex_aload_n (t := 1120) dL_law_1119 rfl rfl rfl ?_
  refine ex_aloadU (t := 1121) (x := 2) dL_law_1120 rfl ⟨b, hb⟩ rfl rfl ?_
  refine ex_iload_n (t := 1122) dL_law_1121 rfl rfl rfl ?_
  refine ex_ic1 (t := 1123) dL_law_1122 rfl ?_
  refine ex_iadd (t := 1124) dL_law_1123 rfl ?_
  refine ex_sald (t := 1125) (x := 2) (j := i + 1) hX hb hbN (sc_in (c := 1) (by omega) hN) (sc_cl (c := 1) (N := N) (by omega) hN) dL_law_1124 rfl ?_
  refine ex_aloadU (t := 1126) (x := 2) dL_law_1125 rfl ⟨b, hb⟩ rfl rfl ?_
  refine ex_iload_n (t := 1127) dL_law_1126 rfl rfl rfl ?_
  refine ex_ic2 (t := 1128) dL_law_1127 rfl ?_
  refine ex_iadd (t := 1129) dL_law_1128 rfl ?_
  refine ex_sald (t := 1130) (x := 2) (j := i + 2) hX hb hbN (sc_in (c := 2) (by omega) hN) (sc_cl (c := 2) (N := N) (by omega) hN) dL_law_1129 rfl ?_
  refine ex_aloadU (t := 1131) (x := 2) dL_law_1130 rfl ⟨b, hb⟩ rfl rfl ?_
  refine ex_iload_n (t := 1132) dL_law_1131 rfl rfl rfl ?_
  refine ex_ic3 (t := 1133) dL_law_1132 rfl ?_
  refine ex_iadd (t := 1134) dL_law_1133 rfl ?_
  refine ex_sald (t := 1135) (x := 2) (j := i + 3) hX hb hbN (sc_in (c := 3) (by omega) hN) (sc_cl (c := 3) (N := N) (by omega) hN) dL_law_1134 rfl ?_
  refine ex_aloadU (t := 1136) (x := 2) dL_law_1135 rfl ⟨b, hb⟩ rfl rfl ?_
  refine ex_iload_n (t := 1137) dL_law_1136 rfl rfl rfl ?_
  refine ex_ic4 (t := 1138) dL_law_1137 rfl ?_
  refine ex_iadd (t := 1139) dL_law_1138 rfl ?_
  refine ex_sald (t := 1140) (x := 2) (j := i + 4) hX hb hbN (sc_in (c := 4) (by omega) hN) (sc_cl (c := 4) (N := N) (by omega) hN) dL_law_1139 rfl ?_
  refine ex_callV (t := 1143) (As := [_, _, _, _]) hx (fcX0).1 x1 (lw_V q850 q851 q852 q51 q853) rfl naX0_film dL_law_1140 rfl (Nat.le_of_ble_eq_true rfl) (Nat.le_of_ble_eq_true rfl) (by omega) (by omega) (Nat.le_of_ble_eq_true rfl) rfl (fun r h1 n1 q => ?_)
  obtain ⟨v, rfl, okv, ⟨fs, m33⟩, hm⟩ := hq r h1 n1 q
  obtain ⟨z, rfl⟩ := okv
  refine ex_aload_n (t := 1144) dL_law_1143 rfl rfl rfl ?_
  refine ex_aloadU (t := 1145) (x := 2) dL_law_1144 rfl ⟨b, hb⟩ rfl rfl ?_
  refine ex_iload_n (t := 1146) dL_law_1145 rfl rfl rfl ?_
  refine ex_ic1 (t := 1147) dL_law_1146 rfl ?_
  refine ex_iadd (t := 1148) dL_law_1147 rfl ?_
  refine ex_sald (t := 1149) (x := 2) (j := i + 1) hX hb hbN (sc_in (c := 1) (by omega) hN) (sc_cl (c := 1) (N := N) (by omega) hN) dL_law_1148 rfl ?_
  refine ex_aloadU (t := 1150) (x := 2) dL_law_1149 rfl ⟨b, hb⟩ rfl rfl ?_
  refine ex_iload_n (t := 1151) dL_law_1150 rfl rfl rfl ?_
  refine ex_ic2 (t := 1152) dL_law_1151 rfl ?_
  refine ex_iadd (t := 1153) dL_law_1152 rfl ?_
  refine ex_sald (t := 1154) (x := 2) (j := i + 2) hX hb hbN (sc_in (c := 2) (by omega) hN) (sc_cl (c := 2) (N := N) (by omega) hN) dL_law_1153 rfl ?_
  refine ex_aloadU (t := 1155) (x := 2) dL_law_1154 rfl ⟨b, hb⟩ rfl rfl ?_
  refine ex_iload_n (t := 1156) dL_law_1155 rfl rfl rfl ?_
  refine ex_ic3 (t := 1157) dL_law_1156 rfl ?_
  refine ex_iadd (t := 1158) dL_law_1157 rfl ?_
  refine ex_sald (t := 1159) (x := 2) (j := i + 3) hX hb hbN (sc_in (c := 3) (by omega) hN) (sc_cl (c := 3) (N := N) (by omega) hN) dL_law_1158 rfl ?_
  refine ex_aloadU (t := 1160) (x := 2) dL_law_1159 rfl ⟨b, hb⟩ rfl rfl ?_
  refine ex_iload_n (t := 1161) dL_law_1160 rfl rfl rfl ?_
  refine ex_ic4 (t := 1162) dL_law_1161 rfl ?_
  refine ex_iadd (t := 1163) dL_law_1162 rfl ?_
  refine ex_sald (t := 1164) (x := 2) (j := i + 4) hX hb hbN (sc_in (c := 4) (by omega) hN) (sc_cl (c := 4) (N := N) (by omega) hN) dL_law_1163 rfl ?_
  refine ex_callV (t := 1167) (As := [_, _, _, _]) hm (fcX4).1 m33 (lw_V q1402 q1403 q1404 q60 q1405) rfl naX4_film dL_law_1164 rfl (Nat.le_of_ble_eq_true rfl) (Nat.le_of_ble_eq_true rfl) (by omega) (by omega) (Nat.le_of_ble_eq_true rfl) rfl (fun r2 h2 n2 q2 => ?_)
  obtain ⟨rfl, wo2⟩ := q2
  refine ex_icmp_eq (t := 1235) (t2 := 1170) dL_law_1167 rfl rfl (fun _ => ?_) (fun c => absurd rfl c)
  exact ex_cnt (by omega) (by omega) rfl (kk h2 n2 wo2)
set_option maxHeartbeats 4000000 in
theorem lc_copy (hfl : noTr l) (hX : ∀ s, X s → va_X b N xs s s.heap ∧ b < s.heap.size) (hb : gU G 3 = some b) (hbN : b ≤ gN G) (hN : N ≤ 384) (hi : i + 6 ≤ N) (wo : WO h n) (hk : k + 28 ≤ MCL) (hs : sl + 4010 ≤ MSL) (kk : ∀ h' n', WO h' n' → EWX X l G x code 4 ret 2048 MCL MSL QL (k + 28) (sl + 4010) h' n' 1235 (LL i) []) : EWX X l G x code 4 ret 2048 MCL MSL QL k sl h n 1172 (LL i) [] := by
  obtain ⟨sx, x1⟩ := wo_1 wo
  obtain ⟨Q1, hx, hq⟩ := op_copy (l := l) (G := G) hfl wo (xs (i + 1)) (xs (i + 2)) (xs (i + 3)) (xs (i + 4)) (xs (i + 5))
  refine ex_aload_n (t := 1173) dL_law_1172 rfl rfl rfl ?_
  refine ex_aloadU (t := 1174) (x := 2) dL_law_1173 rfl ⟨b, hb⟩ rfl rfl ?_
  refine ex_iload_n (t := 1175) dL_law_1174 rfl rfl rfl ?_
  refine ex_ic1 (t := 1176) dL_law_1175 rfl ?_
  refine ex_iadd (t := 1177) dL_law_1176 rfl ?_
  refine ex_sald (t := 1178) (x := 2) (j := i + 1) hX hb hbN (sc_in (c := 1) (by omega) hN) (sc_cl (c := 1) (N := N) (by omega) hN) dL_law_1177 rfl ?_
  refine ex_aloadU (t := 1179) (x := 2) dL_law_1178 rfl ⟨b, hb⟩ rfl rfl ?_
  refine ex_iload_n (t := 1180) dL_law_1179 rfl rfl rfl ?_
  refine ex_ic2 (t := 1181) dL_law_1180 rfl ?_
  refine ex_iadd (t := 1182) dL_law_1181 rfl ?_
  refine ex_sald (t := 1183) (x := 2) (j := i + 2) hX hb hbN (sc_in (c := 2) (by omega) hN) (sc_cl (c := 2) (N := N) (by omega) hN) dL_law_1182 rfl ?_
  refine ex_aloadU (t := 1184) (x := 2) dL_law_1183 rfl ⟨b, hb⟩ rfl rfl ?_
  refine ex_iload_n (t := 1185) dL_law_1184 rfl rfl rfl ?_
  refine ex_ic3 (t := 1186) dL_law_1185 rfl ?_
  refine ex_iadd (t := 1187) dL_law_1186 rfl ?_
  refine ex_sald (t := 1188) (x := 2) (j := i + 3) hX hb hbN (sc_in (c := 3) (by omega) hN) (sc_cl (c := 3) (N := N) (by omega) hN) dL_law_1187 rfl ?_
  refine ex_aloadU (t := 1189) (x := 2) dL_law_1188 rfl ⟨b, hb⟩ rfl rfl ?_
  refine ex_iload_n (t := 1190) dL_law_1189 rfl rfl rfl ?_
  refine ex_ic4 (t := 1191) dL_law_1190 rfl ?_
  refine ex_iadd (t := 1192) dL_law_1191 rfl ?_
  refine ex_sald (t := 1193) (x := 2) (j := i + 4) hX hb hbN (sc_in (c := 4) (by omega) hN) (sc_cl (c := 4) (N := N) (by omega) hN) dL_law_1192 rfl ?_
  refine ex_aloadU (t := 1194) (x := 2) dL_law_1193 rfl ⟨b, hb⟩ rfl rfl ?_
  refine ex_iload_n (t := 1195) dL_law_1194 rfl rfl rfl ?_
  refine ex_ic5 (t := 1196) dL_law_1195 rfl ?_
  refine ex_iadd (t := 1197) dL_law_1196 rfl ?_
  refine ex_sald (t := 1198) (x := 2) (j := i + 5) hX hb hbN (sc_in (c := 5) (by omega) hN) (sc_cl (c := 5) (N := N) (by omega) hN) dL_law_1197 rfl ?_
  refine ex_callVW (t := 1201) (As := [_, _, _, _, _]) hx (fcX0).1 x1 (by rw [show hdl yX0_copy = [(16, 42, 45, 371), (16, 42, 50, 377), (16, 42, 55, 379)] from by decide +kernel]; exact lw_VW q996 q997 q998 q51 q999) rfl naX0_copy dL_law_1198 rfl (Nat.le_of_ble_eq_true rfl) (Nat.le_of_ble_eq_true rfl) (by omega) (by omega) (Nat.le_of_ble_eq_true rfl) rfl (fun r h1 n1 q => ?_)
  obtain ⟨v, rfl, okv, ⟨fs, m33⟩, hm⟩ := hq r h1 n1 q
  obtain ⟨z, rfl⟩ := okv
  refine ex_aload_n (t := 1202) dL_law_1201 rfl rfl rfl ?_
  refine ex_aloadU (t := 1203) (x := 2) dL_law_1202 rfl ⟨b, hb⟩ rfl rfl ?_
  refine ex_iload_n (t := 1204) dL_law_1203 rfl rfl rfl ?_
  refine ex_ic1 (t := 1205) dL_law_1204 rfl ?_
  refine ex_iadd (t := 1206) dL_law_1205 rfl ?_
  refine ex_sald (t := 1207) (x := 2) (j := i + 1) hX hb hbN (sc_in (c := 1) (by omega) hN) (sc_cl (c := 1) (N := N) (by omega) hN) dL_law_1206 rfl ?_
  refine ex_aloadU (t := 1208) (x := 2) dL_law_1207 rfl ⟨b, hb⟩ rfl rfl ?_
  refine ex_iload_n (t := 1209) dL_law_1208 rfl rfl rfl ?_
  refine ex_ic2 (t := 1210) dL_law_1209 rfl ?_
  refine ex_iadd (t := 1211) dL_law_1210 rfl ?_
  refine ex_sald (t := 1212) (x := 2) (j := i + 2) hX hb hbN (sc_in (c := 2) (by omega) hN) (sc_cl (c := 2) (N := N) (by omega) hN) dL_law_1211 rfl ?_
  refine ex_aloadU (t := 1213) (x := 2) dL_law_1212 rfl ⟨b, hb⟩ rfl rfl ?_
  refine ex_iload_n (t := 1214) dL_law_1213 rfl rfl rfl ?_
  refine ex_ic3 (t := 1215) dL_law_1214 rfl ?_
  refine ex_iadd (t := 1216) dL_law_1215 rfl ?_
  refine ex_sald (t := 1217) (x := 2) (j := i + 3) hX hb hbN (sc_in (c := 3) (by omega) hN) (sc_cl (c := 3) (N := N) (by omega) hN) dL_law_1216 rfl ?_
  refine ex_aloadU (t := 1218) (x := 2) dL_law_1217 rfl ⟨b, hb⟩ rfl rfl ?_
  refine ex_iload_n (t := 1219) dL_law_1218 rfl rfl rfl ?_
  refine ex_ic4 (t := 1220) dL_law_1219 rfl ?_
  refine ex_iadd (t := 1221) dL_law_1220 rfl ?_
  refine ex_sald (t := 1222) (x := 2) (j := i + 4) hX hb hbN (sc_in (c := 4) (by omega) hN) (sc_cl (c := 4) (N := N) (by omega) hN) dL_law_1221 rfl ?_
  refine ex_aloadU (t := 1223) (x := 2) dL_law_1222 rfl ⟨b, hb⟩ rfl rfl ?_
  refine ex_iload_n (t := 1224) dL_law_1223 rfl rfl rfl ?_
  refine ex_ic5 (t := 1225) dL_law_1224 rfl ?_
  refine ex_iadd (t := 1226) dL_law_1225 rfl ?_
  refine ex_sald (t := 1227) (x := 2) (j := i + 5) hX hb hbN (sc_in (c := 5) (by omega) hN) (sc_cl (c := 5) (N := N) (by omega) hN) dL_law_1226 rfl ?_
  refine ex_callV (t := 1230) (As := [_, _, _, _, _]) hm (fcX4).1 m33 (lw_V q1406 q1407 q1408 q60 q1409) rfl naX4_copy dL_law_1227 rfl (Nat.le_of_ble_eq_true rfl) (Nat.le_of_ble_eq_true rfl) (by omega) (by omega) (Nat.le_of_ble_eq_true rfl) rfl (fun r2 h2 n2 q2 => ?_)
  obtain ⟨rfl, wo2⟩ := q2
  refine ex_icmp_eq (t := 1235) (t2 := 1233) dL_law_1230 rfl rfl (fun _ => ?_) (fun c => absurd rfl c)
  exact ex_cnt (by omega) (by omega) rfl (kk h2 n2 wo2)
end LAW
