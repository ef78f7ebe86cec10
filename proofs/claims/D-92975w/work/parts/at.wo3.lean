/-! ops that tell: set, ring, cell, depth -/
set_option maxRecDepth 100000
theorem OPP.t {l : Launch} {G : GW} {yx ym : MethodName} {cx cm : ByteArray} {nx nm : Nat} {fx fm mcx msx : Nat} {As : List Value} {s : Nat → Int32} {al : Int64} {F : Nat → Nat → Int32} {FL : Nat → Int64} {h : AH} {n : Nat} {p : OR} {Qx : Option Value → AH → Nat → Prop} (mc : MC s al F FL h)
    (hx : AM l G yx cx nx (some .int) fx mcx msx (.ref 1 :: As) h n Qx) (hq : ∀ r h1 n1, Qx r h1 n1 → r = some (.int p.1) ∧ (∀ k, 33 ≤ k ∧ k < 63 → h1 k = h k) ∧ ∃ sx' Fk np nd npk ndk e1 e2 e3 e4 tp rr, WX sx' p.2.2 Fk np nd npk ndk e1 e2 e3 e4 rr h1 n1 ∧ VV sx' p.2.1 p.2.2 Fk np nd npk ndk tp)
    (hm : ∀ h1 n1, MC s al F FL h1 → AM l G ym cm nm (some .int) fm 0 0 (.ref 33 :: As) h1 n1 (OpR h1 n1 p)) : OPP l G yx ym cx cm nx nm (some .int) fx fm mcx msx As h n := by
  refine ⟨_, hx, fun r h1 n1 q => ?_⟩
  obtain ⟨q1, q2, sx', Fk, np, nd, npk, ndk, e1, e2, e3, e4, tp, rr, q3, q4⟩ := hq r h1 n1 q
  refine ⟨_, q1, ⟨_, rfl⟩, ⟨_, (mc.kp q2).1⟩, AM.post (fun r' h' n' q' => ?_) (hm h1 n1 (mc.kp q2))⟩
  obtain ⟨p1, p2, p3⟩ := WW.m q3 q4 q'
  exact ⟨p1, p3⟩
theorem OPW.t {l : Launch} {G : GW} {yx ym : MethodName} {cx cm : ByteArray} {nx nm : Nat} {fx fm mcx msx : Nat} {As : List Value} {s : Nat → Int32} {al : Int64} {F : Nat → Nat → Int32} {FL : Nat → Int64} {h : AH} {n : Nat} {p : OR} {Qx : Option Value → AH → Nat → Prop} (mc : MC s al F FL h)
    (hx : AMW l G yx cx nx (some .int) fx mcx msx (.ref 1 :: As) h n Qx) (hq : ∀ r h1 n1, Qx r h1 n1 → r = some (.int p.1) ∧ (∀ k, 33 ≤ k ∧ k < 63 → h1 k = h k) ∧ ∃ sx' Fk np nd npk ndk e1 e2 e3 e4 tp rr, WX sx' p.2.2 Fk np nd npk ndk e1 e2 e3 e4 rr h1 n1 ∧ VV sx' p.2.1 p.2.2 Fk np nd npk ndk tp)
    (hm : ∀ h1 n1, MC s al F FL h1 → AM l G ym cm nm (some .int) fm 0 0 (.ref 33 :: As) h1 n1 (OpR h1 n1 p)) : OPW l G yx ym cx cm nx nm (some .int) fx fm mcx msx As h n := by
  refine ⟨_, hx, fun r h1 n1 q => ?_⟩
  obtain ⟨q1, q2, sx', Fk, np, nd, npk, ndk, e1, e2, e3, e4, tp, rr, q3, q4⟩ := hq r h1 n1 q
  refine ⟨_, q1, ⟨_, rfl⟩, ⟨_, (mc.kp q2).1⟩, AM.post (fun r' h' n' q' => ?_) (hm h1 n1 (mc.kp q2))⟩
  obtain ⟨p1, p2, p3⟩ := WW.m q3 q4 q'
  exact ⟨p1, p3⟩
/-- an int between small bounds -/
theorem in_nat {v : Int32} {lo hi : Nat} (h1 : lo ≤ hi) (h2 : hi < 2 ^ 31) (h : ¬ b2i (inL v.toInt64 (nI lo).toInt64 (nI hi).toInt64) = 0) : ∃ j, lo ≤ j ∧ j ≤ hi ∧ v = nI j := by
  rw [inL_I] at h
  exact inI_nat h1 h2 (b2i_1.mp h)
/-- the numbers stay right if only what is told changes, and stays right -/
theorem VV.t {sx s : Nat → Int32} {F F' Fk : Nat → Nat → Int32} {np nd npk ndk tp : Nat} (v : VV sx s F Fk np nd npk ndk tp) (vd : VD F' np nd) (e : ∀ k, ¬ (34 ≤ k ∧ k ≤ 39) → F' k = F k) : VV sx s F' Fk np nd npk ndk tp := by
  obtain ⟨v1, v2, v3, v4, v5, v6, v7, v8, v9, v10, v11⟩ := v
  exact ⟨vd, v2, v3.cg (fun k hk => e k (by omega)), by rw [e 40 (by omega)]; exact v4, v5, v6, v7, v8, v9, v10, fun hk => (v11 hk).cg (e 58 (by omega))⟩
theorem upd_all {f : Nat → Int32} {k : Nat} {v : Int32} {N : Nat} {P : Int32 → Prop} (h : ∀ j, j < N → P (f j)) (hv : P v) : ∀ j, j < N → P (upd f k v j) := by
  intro j hj
  by_cases e : j = k
  · rw [e, pk_us]; exact hv
  · rw [pk_un e]; exact h j hj
theorem fits_s : ∀ j, j < 10 → fits .byte (.int (nI j)) = true := by decide
theorem VD.dep {F : Nat → Nat → Int32} {np nd c j : Nat} (v : VD F np nd) (hj : j ≤ 9) : VD (va_up F 39 (upd (F 39) c (nI j))) np nd := by
  obtain ⟨v1, v2, ⟨b1, b2, b3⟩, v4, v5⟩ := v
  exact ⟨v1, v2, ⟨b1, b2, upd_all (P := fun x => fits .byte (.int x) = true) b3 (fits_s j (by omega))⟩, v4, v5⟩
theorem VD.war {F : Nat → Nat → Int32} {np nd c j : Nat} (v : VD F np nd) (hj : j ≤ 9) : VD (va_up F 38 (upd (F 38) c (nI j))) np nd := by
  obtain ⟨v1, v2, ⟨b1, b2, b3⟩, v4, v5⟩ := v
  exact ⟨v1, v2, ⟨b1, upd_all (P := fun x => fits .byte (.int x) = true) b2 (fits_s j (by omega)), b3⟩, v4, v5⟩
theorem VD.cur {F : Nat → Nat → Int32} {np nd c j : Nat} (v : VD F np nd) (hj : j ≤ 8) : VD (va_up F 37 (upd (F 37) c (nI j))) np nd := by
  obtain ⟨v1, ⟨o1, o2, o3, o4⟩, ⟨b1, b2, b3⟩, v4, v5⟩ := v
  exact ⟨v1, ⟨o1, o2, upd_all (P := fun x => ∃ u, u ≤ 8 ∧ x = nI u) o3 ⟨j, hj, rfl⟩, o4⟩, ⟨upd_all (P := fun x => fits .byte (.int x) = true) b1 (fits_s j (by omega)), b2, b3⟩, v4, v5⟩
theorem VD.ton {F : Nat → Nat → Int32} {np nd c : Nat} {x : Int32} (v : VD F np nd) : VD (va_up F 36 (upd (F 36) c x)) np nd := v
theorem VD.rin {F : Nat → Nat → Int32} {np nd c : Nat} {x : Int32} (v : VD F np nd) (hx : x = -1 ∨ ∃ j, j ≤ 40 ∧ x = nI j) : VD (va_up F 35 (upd (F 35) c x)) np nd := by
  obtain ⟨⟨a, b, H, T, S, U, g, wd, w1, w2, w3, w4, w5, w6, w7, w8, w9, w10, w11, w12, w13, w14, w15, w16, w17, w18⟩, v2, v3, v4, v5⟩ := v
  refine ⟨⟨a, b, H, T, S, U, g, wd, w1, w2, w3, w4, w5, w6, w7, w8, w9, w10, w11, w12, w13, w14, w15, w16, w17, upd_all (P := fun y => y < 0 ∨ ∃ z, z ≤ 100 ∧ y = nI z) w18 ?_⟩, v2, v3, upd_all (P := fun y => y < 0 → y = -1) v4 ?_, v5⟩
  · rcases hx with rfl | ⟨j, hj, rfl⟩
    · exact Or.inl (by decide)
    · exact Or.inr ⟨j, by omega, rfl⟩
  · rcases hx with rfl | ⟨j, hj, rfl⟩
    · exact fun _ => rfl
    · exact fun q => absurd q (Int32.not_lt.mpr (nI_nn (by omega)))
theorem VD.set {F : Nat → Nat → Int32} {np nd w j : Nat} (v : VD F np nd) (h : (w = 0 ∧ j ≤ 99) ∨ (w = 1 ∧ j ≤ 99) ∨ (w = 2 ∧ 1 ≤ j ∧ j ≤ 6) ∨ (w = 3 ∧ j ≤ 2) ∨ (w = 4 ∧ j ≤ 1) ∨ (w = 5 ∧ j ≤ 60) ∨ (w = 6 ∧ j ≤ 3) ∨ (w = 7 ∧ j ≤ 8)) : VD (va_up F 34 (upd (F 34) w (nI j))) np nd := by
  obtain ⟨⟨a, b, H, T, S, U, g, wd, w1, w2, w3, w4, w5, w6, w7, w8, w9, w10, w11, w12, w13, w14, w15, w16, w17, w18⟩, ⟨o1, o2, o3, o4⟩, v3, v4, v5⟩ := v
  have un : ∀ i, ¬ i = w → va_up F 34 (upd (F 34) w (nI j)) 34 i = F 34 i := fun i hi => pk_un hi
  have us : va_up F 34 (upd (F 34) w (nI j)) 34 w = nI j := pk_us
  rcases h with ⟨rfl, h⟩ | ⟨rfl, h⟩ | ⟨rfl, h, h'⟩ | ⟨rfl, h⟩ | ⟨rfl, h⟩ | ⟨rfl, h⟩ | ⟨rfl, h⟩ | ⟨rfl, h⟩
  · exact ⟨⟨j, b, H, T, S, U, g, wd, us, by omega, (un 1 (by omega)).trans w3, w4, (un 2 (by omega)).trans w5, w6, w7, (un 3 (by omega)).trans w8, w9, (un 4 (by omega)).trans w10, w11, (un 5 (by omega)).trans w12, w13, (un 6 (by omega)).trans w14, w15, (un 7 (by omega)).trans w16, w17, w18⟩, ⟨o1, o2, o3, wd, w17, (un 7 (by omega)).trans w16⟩, v3, v4, v5⟩
  · exact ⟨⟨a, j, H, T, S, U, g, wd, (un 0 (by omega)).trans w1, w2, us, by omega, (un 2 (by omega)).trans w5, w6, w7, (un 3 (by omega)).trans w8, w9, (un 4 (by omega)).trans w10, w11, (un 5 (by omega)).trans w12, w13, (un 6 (by omega)).trans w14, w15, (un 7 (by omega)).trans w16, w17, w18⟩, ⟨o1, o2, o3, wd, w17, (un 7 (by omega)).trans w16⟩, v3, v4, v5⟩
  · exact ⟨⟨a, b, j, T, S, U, g, wd, (un 0 (by omega)).trans w1, w2, (un 1 (by omega)).trans w3, w4, us, by omega, by omega, (un 3 (by omega)).trans w8, w9, (un 4 (by omega)).trans w10, w11, (un 5 (by omega)).trans w12, w13, (un 6 (by omega)).trans w14, w15, (un 7 (by omega)).trans w16, w17, w18⟩, ⟨o1, o2, o3, wd, w17, (un 7 (by omega)).trans w16⟩, v3, v4, v5⟩
  · exact ⟨⟨a, b, H, j, S, U, g, wd, (un 0 (by omega)).trans w1, w2, (un 1 (by omega)).trans w3, w4, (un 2 (by omega)).trans w5, w6, w7, us, h, (un 4 (by omega)).trans w10, w11, (un 5 (by omega)).trans w12, w13, (un 6 (by omega)).trans w14, w15, (un 7 (by omega)).trans w16, w17, w18⟩, ⟨o1, o2, o3, wd, w17, (un 7 (by omega)).trans w16⟩, v3, v4, v5⟩
  · exact ⟨⟨a, b, H, T, j, U, g, wd, (un 0 (by omega)).trans w1, w2, (un 1 (by omega)).trans w3, w4, (un 2 (by omega)).trans w5, w6, w7, (un 3 (by omega)).trans w8, w9, us, h, (un 5 (by omega)).trans w12, w13, (un 6 (by omega)).trans w14, w15, (un 7 (by omega)).trans w16, w17, w18⟩, ⟨o1, o2, o3, wd, w17, (un 7 (by omega)).trans w16⟩, v3, v4, v5⟩
  · exact ⟨⟨a, b, H, T, S, j, g, wd, (un 0 (by omega)).trans w1, w2, (un 1 (by omega)).trans w3, w4, (un 2 (by omega)).trans w5, w6, w7, (un 3 (by omega)).trans w8, w9, (un 4 (by omega)).trans w10, w11, us, h, (un 6 (by omega)).trans w14, w15, (un 7 (by omega)).trans w16, w17, w18⟩, ⟨o1, o2, o3, wd, w17, (un 7 (by omega)).trans w16⟩, v3, v4, v5⟩
  · exact ⟨⟨a, b, H, T, S, U, j, wd, (un 0 (by omega)).trans w1, w2, (un 1 (by omega)).trans w3, w4, (un 2 (by omega)).trans w5, w6, w7, (un 3 (by omega)).trans w8, w9, (un 4 (by omega)).trans w10, w11, (un 5 (by omega)).trans w12, w13, us, h, (un 7 (by omega)).trans w16, w17, w18⟩, ⟨o1, o2, o3, wd, w17, (un 7 (by omega)).trans w16⟩, v3, v4, v5⟩
  · exact ⟨⟨a, b, H, T, S, U, g, j, (un 0 (by omega)).trans w1, w2, (un 1 (by omega)).trans w3, w4, (un 2 (by omega)).trans w5, w6, w7, (un 3 (by omega)).trans w8, w9, (un 4 (by omega)).trans w10, w11, (un 5 (by omega)).trans w12, w13, (un 6 (by omega)).trans w14, w15, us, h, w18⟩, ⟨o1, o2, o3, j, h, us⟩, v3, v4, v5⟩
theorem up_off {F : Nat → Nat → Int32} {K : Nat} {f : Nat → Int32} (hK : 34 ≤ K ∧ K ≤ 39) : ∀ k, ¬ (34 ≤ k ∧ k ≤ 39) → va_up F K f k = F k := fun k hk => va_up_ne _ _ (by omega)
theorem dep_ok {s : Nat → Int32} {F : Nat → Nat → Int32} {np nd : Nat} (vd : VD F np nd) (c v : Int32) : (depP s F c v).2.1 = s ∧ VD (depP s F c v).2.2 np nd ∧ ∀ k, ¬ (34 ≤ k ∧ k ≤ 39) → (depP s F c v).2.2 k = F k := by
  unfold depP
  by_cases c1 : b2i (inI c 0 99) = 0
  · rw [if_pos c1]; exact ⟨rfl, vd, fun _ _ => rfl⟩
  · rw [if_neg c1]
    by_cases c2 : ¬ b2i (inL v.toInt64 1 9) = 0
    · rw [if_pos c2]
      obtain ⟨j, h1, h2, rfl⟩ := in_nat (lo := 1) (hi := 9) (by omega) (by omega) c2
      exact ⟨rfl, vd.dep h2, up_off (by omega)⟩
    · rw [if_neg c2]; exact ⟨rfl, vd, fun _ _ => rfl⟩
theorem cel_ok {s : Nat → Int32} {F : Nat → Nat → Int32} {np nd : Nat} (vd : VD F np nd) (se c wh v : Int32) : (celP s F se c wh v).2.1 = s ∧ VD (celP s F se c wh v).2.2 np nd ∧ ∀ k, ¬ (34 ≤ k ∧ k ≤ 39) → (celP s F se c wh v).2.2 k = F k := by
  unfold celP
  by_cases c1 : b2i (inL se.toInt64 0 1) = 0
  · rw [if_pos c1]; exact ⟨rfl, vd, fun _ _ => rfl⟩
  rw [if_neg c1]
  by_cases c2 : b2i (inI c 0 99) = 0
  · rw [if_pos c2]; exact ⟨rfl, vd, fun _ _ => rfl⟩
  rw [if_neg c2]
  by_cases c3 : b2i (inL wh.toInt64 0 1) = 0
  · rw [if_pos c3]; exact ⟨rfl, vd, fun _ _ => rfl⟩
  rw [if_neg c3]
  by_cases c5 : ¬ wh = 0
  · rw [if_pos c5]
    by_cases c4 : ¬ b2i (inL v.toInt64 0 9) = 0
    · rw [if_pos c4, if_pos c5]
      obtain ⟨j, h1, h2, rfl⟩ := in_nat (lo := 0) (hi := 9) (by omega) (by omega) c4
      exact ⟨rfl, vd.war h2, up_off (by omega)⟩
    · rw [if_neg c4]; exact ⟨rfl, vd, fun _ _ => rfl⟩
  · rw [if_neg c5]
    by_cases c4 : ¬ b2i (inL v.toInt64 0 8) = 0
    · rw [if_pos c4, if_neg c5]
      obtain ⟨j, h1, h2, rfl⟩ := in_nat (lo := 0) (hi := 8) (by omega) (by omega) c4
      exact ⟨rfl, vd.cur h2, up_off (by omega)⟩
    · rw [if_neg c4]; exact ⟨rfl, vd, fun _ _ => rfl⟩
