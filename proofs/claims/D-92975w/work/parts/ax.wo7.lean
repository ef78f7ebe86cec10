/-! image and restore as pairs of calls (printed by gen/wo7.py) -/
set_option maxRecDepth 100000
theorem AM.hr {l : Launch} {G : GW} {y : MethodName} {cc : ByteArray} {nL : Nat} {ret : Option FieldType} {fr mc ms : Nat} {as : List Value} {h h' : AH} {n : Nat} {Q : Option Value → AH → Nat → Prop} (hh : ∀ H, HR G h n H → HR G h' n H) (hM : AM l G y cc nL ret fr mc ms as h' n Q) : AM l G y cc nL ret fr mc ms as h n Q := by
  intro p e ha hc hk s m args below hf happ hP hK
  obtain ⟨h0, hR, hV⟩ := hP
  exact hM p e ha hc hk s m args below hf happ ⟨h0, hh _ hR, hV⟩ hK
theorem WX.cg2 {sx : Nat → Int32} {F F' Fk : Nat → Nat → Int32} {np nd npk ndk e1 e2 e3 e4 : Nat} {rr : Nat → Nat} {h : AH} {n : Nat} (w : WX sx F Fk np nd npk ndk e1 e2 e3 e4 rr h n) (e : ∀ k, ¬ k = 58 → F' k = F k) : WX sx F' Fk np nd npk ndk e1 e2 e3 e4 rr h n := by
  obtain ⟨w0, w1, w2, w3, w4, w5, w6, w7, w8, w9, w10, w11, w12, w13, w14⟩ := w
  refine ⟨w0, w1, ?_, ?_, ?_, w5, ?_, w7, w8, w9, w10, w11, w12.cg (e 59 (by omega)) (e 60 (by omega)) (e 61 (by omega)), ?_, ?_⟩
  · unfold XT; rw [e 34 (by omega), e 35 (by omega), e 36 (by omega), e 37 (by omega), e 38 (by omega), e 39 (by omega)]; exact w2
  · rw [show pcO F' = pcO F from by funext j; unfold pcO; rw [e 52 (by omega)]]; exact w3
  · rw [show drO F' = drO F from by funext j; unfold drO; rw [e 53 (by omega), e 54 (by omega)]]; exact w4
  · rw [e 40 (by omega)]; exact w6
  · unfold rrD; rw [e 59 (by omega)]; exact w13
  · rw [e 59 (by omega)]; exact w14
theorem sv_at {g f : Nat → Int32} {a : Nat} : ∀ N j, j < N → svI g f a N (a + j) = f j
  | 0, j, h => by omega
  | N + 1, j, h => by
    rw [svI]
    by_cases e : j = N
    · rw [e, pk_us]
    · rw [pk_un (by omega)]; exact sv_at N j (by omega)
theorem sv_off {g f : Nat → Int32} {a : Nat} : ∀ N q, ¬ (a ≤ q ∧ q < a + N) → svI g f a N q = g q
  | 0, q, h => rfl
  | N + 1, q, h => by rw [svI, pk_un (by omega)]; exact sv_off N q (by omega)
theorem gv_at {g f : Nat → Int32} {a : Nat} : ∀ N j, j < N → gvI g f a N j = f (a + j)
  | 0, j, h => by omega
  | N + 1, j, h => by
    rw [gvI]
    by_cases e : j = N
    · rw [e, pk_us]
    · rw [pk_un e]; exact gv_at N j (by omega)
theorem im1_o {F : Nat → Nat → Int32} {k : Nat} (hk : ¬ k = 58) : im1 F k = F k := by
  unfold im1
  rw [va_up_ne _ _ hk]
theorem im1_s (F : Nat → Nat → Int32) : im1 F 58 = svI (F 58) (F 34) 0 8 := by
  unfold im1
  rw [va_up_self]
theorem im2_o {F : Nat → Nat → Int32} {k : Nat} (hk : ¬ k = 58) : im2 F k = F k := by
  unfold im2
  rw [va_up_ne _ _ hk]
  exact im1_o hk
theorem im2_s (F : Nat → Nat → Int32) : im2 F 58 = svI (im1 F 58) (F 35) 8 7 := by
  unfold im2
  rw [va_up_self, im1_o (k := 35) (by omega)]
theorem im3_o {F : Nat → Nat → Int32} {k : Nat} (hk : ¬ k = 58) : im3 F k = F k := by
  unfold im3
  rw [va_up_ne _ _ hk]
  exact im2_o hk
theorem im3_s (F : Nat → Nat → Int32) : im3 F 58 = svI (im2 F 58) (F 36) 15 7 := by
  unfold im3
  rw [va_up_self, im2_o (k := 36) (by omega)]
theorem im4_o {F : Nat → Nat → Int32} {k : Nat} (hk : ¬ k = 58) : im4 F k = F k := by
  unfold im4
  rw [va_up_ne _ _ hk]
  exact im3_o hk
theorem im4_s (F : Nat → Nat → Int32) : im4 F 58 = svI (im3 F 58) (F 37) 22 200 := by
  unfold im4
  rw [va_up_self, im3_o (k := 37) (by omega)]
theorem im5_o {F : Nat → Nat → Int32} {k : Nat} (hk : ¬ k = 58) : im5 F k = F k := by
  unfold im5
  rw [va_up_ne _ _ hk]
  exact im4_o hk
theorem im5_s (F : Nat → Nat → Int32) : im5 F 58 = svI (im4 F 58) (F 38) 222 200 := by
  unfold im5
  rw [va_up_self, im4_o (k := 38) (by omega)]
theorem im6_o {F : Nat → Nat → Int32} {k : Nat} (hk : ¬ k = 58) : im6 F k = F k := by
  unfold im6
  rw [va_up_ne _ _ hk]
  exact im5_o hk
theorem im6_s (F : Nat → Nat → Int32) : im6 F 58 = svI (im5 F 58) (F 39) 422 100 := by
  unfold im6
  rw [va_up_self, im5_o (k := 39) (by omega)]
theorem im7_o {F : Nat → Nat → Int32} {k : Nat} (hk : ¬ k = 58) : im7 F k = F k := by
  unfold im7
  rw [va_up_ne _ _ hk]
  exact im6_o hk
theorem im7_s (F : Nat → Nat → Int32) : im7 F 58 = svI (im6 F 58) (F 52) 522 20 := by
  unfold im7
  rw [va_up_self, im6_o (k := 52) (by omega)]
theorem im8_o {F : Nat → Nat → Int32} {k : Nat} (hk : ¬ k = 58) : im8 F k = F k := by
  unfold im8
  rw [va_up_ne _ _ hk]
  exact im7_o hk
theorem im8_s (F : Nat → Nat → Int32) : im8 F 58 = svI (im7 F 58) (F 53) 542 6 := by
  unfold im8
  rw [va_up_self, im7_o (k := 53) (by omega)]
theorem im9_o {F : Nat → Nat → Int32} {k : Nat} (hk : ¬ k = 58) : im9 F k = F k := by
  unfold im9
  rw [va_up_ne _ _ hk]
  exact im8_o hk
theorem im9_s (F : Nat → Nat → Int32) : im9 F 58 = svI (im8 F 58) (F 54) 548 6 := by
  unfold im9
  rw [va_up_self, im8_o (k := 54) (by omega)]
theorem img_ok {s : Nat → Int32} {F : Nat → Nat → Int32} {np nd : Nat} (h25 : s 25 = nI np) (h27 : s 27 = nI nd) : IMG (imgP s F).2.2 F np nd := by
  have e58 : (imgP s F).2.2 58 = upd (upd (im9 F 58) 554 (s 25)) 555 (s 27) := va_up_self (im9 F) 58 _
  unfold IMG
  rw [e58]
  refine ⟨fun j hj => ?_, fun j hj => ?_, fun j hj => ?_, fun j hj => ?_, fun j hj => ?_, fun j hj => ?_, fun j hj => ?_, fun j hj => ?_, fun j hj => ?_, ?_, ?_⟩
  · rw [pk_un (by omega), pk_un (by omega), im9_s, sv_off _ _ (by omega), im8_s, sv_off _ _ (by omega), im7_s, sv_off _ _ (by omega), im6_s, sv_off _ _ (by omega), im5_s, sv_off _ _ (by omega), im4_s, sv_off _ _ (by omega), im3_s, sv_off _ _ (by omega), im2_s, sv_off _ _ (by omega), im1_s]
    have e := sv_at (g := F 58) (f := F 34) (a := 0) 8 j hj
    rw [Nat.zero_add] at e
    exact e
  · rw [pk_un (by omega), pk_un (by omega), im9_s, sv_off _ _ (by omega), im8_s, sv_off _ _ (by omega), im7_s, sv_off _ _ (by omega), im6_s, sv_off _ _ (by omega), im5_s, sv_off _ _ (by omega), im4_s, sv_off _ _ (by omega), im3_s, sv_off _ _ (by omega), im2_s]
    exact sv_at _ j hj
  · rw [pk_un (by omega), pk_un (by omega), im9_s, sv_off _ _ (by omega), im8_s, sv_off _ _ (by omega), im7_s, sv_off _ _ (by omega), im6_s, sv_off _ _ (by omega), im5_s, sv_off _ _ (by omega), im4_s, sv_off _ _ (by omega), im3_s]
    exact sv_at _ j hj
  · rw [pk_un (by omega), pk_un (by omega), im9_s, sv_off _ _ (by omega), im8_s, sv_off _ _ (by omega), im7_s, sv_off _ _ (by omega), im6_s, sv_off _ _ (by omega), im5_s, sv_off _ _ (by omega), im4_s]
    exact sv_at _ j hj
  · rw [pk_un (by omega), pk_un (by omega), im9_s, sv_off _ _ (by omega), im8_s, sv_off _ _ (by omega), im7_s, sv_off _ _ (by omega), im6_s, sv_off _ _ (by omega), im5_s]
    exact sv_at _ j hj
  · rw [pk_un (by omega), pk_un (by omega), im9_s, sv_off _ _ (by omega), im8_s, sv_off _ _ (by omega), im7_s, sv_off _ _ (by omega), im6_s]
    exact sv_at _ j hj
  · rw [pk_un (by omega), pk_un (by omega), im9_s, sv_off _ _ (by omega), im8_s, sv_off _ _ (by omega), im7_s]
    exact sv_at _ j hj
  · rw [pk_un (by omega), pk_un (by omega), im9_s, sv_off _ _ (by omega), im8_s]
    exact sv_at _ j hj
  · rw [pk_un (by omega), pk_un (by omega), im9_s]
    exact sv_at _ j hj
  · rw [pk_un (by omega), pk_us]; exact h25
  · rw [pk_us]; exact h27
theorem img_o {s : Nat → Int32} {F : Nat → Nat → Int32} {k : Nat} (hk : ¬ k = 58) : (imgP s F).2.2 k = F k := (va_up_ne _ _ hk).trans (im9_o hk)
theorem rs1_o {F : Nat → Nat → Int32} {k : Nat} (h34 : ¬ k = 34) : rs1 F k = F k := by
  unfold rs1
  rw [va_up_ne _ _ h34]
theorem rs1_s (F : Nat → Nat → Int32) : rs1 F 34 = gvI (F 34) (F 58) 0 8 := by
  unfold rs1
  rw [va_up_self]
theorem rs2_o {F : Nat → Nat → Int32} {k : Nat} (h34 : ¬ k = 34) (h35 : ¬ k = 35) : rs2 F k = F k := by
  unfold rs2
  rw [va_up_ne _ _ h35]
  exact rs1_o h34
theorem rs2_s (F : Nat → Nat → Int32) : rs2 F 35 = gvI (F 35) (F 58) 8 7 := by
  unfold rs2
  rw [va_up_self, rs1_o (k := 35) (by omega), rs1_o (k := 58) (by omega)]
theorem rs3_o {F : Nat → Nat → Int32} {k : Nat} (h34 : ¬ k = 34) (h35 : ¬ k = 35) (h36 : ¬ k = 36) : rs3 F k = F k := by
  unfold rs3
  rw [va_up_ne _ _ h36]
  exact rs2_o h34 h35
theorem rs3_s (F : Nat → Nat → Int32) : rs3 F 36 = gvI (F 36) (F 58) 15 7 := by
  unfold rs3
  rw [va_up_self, rs2_o (k := 36) (by omega) (by omega), rs2_o (k := 58) (by omega) (by omega)]
theorem rs4_o {F : Nat → Nat → Int32} {k : Nat} (h34 : ¬ k = 34) (h35 : ¬ k = 35) (h36 : ¬ k = 36) (h37 : ¬ k = 37) : rs4 F k = F k := by
  unfold rs4
  rw [va_up_ne _ _ h37]
  exact rs3_o h34 h35 h36
theorem rs4_s (F : Nat → Nat → Int32) : rs4 F 37 = gvI (F 37) (F 58) 22 200 := by
  unfold rs4
  rw [va_up_self, rs3_o (k := 37) (by omega) (by omega) (by omega), rs3_o (k := 58) (by omega) (by omega) (by omega)]
theorem rs5_o {F : Nat → Nat → Int32} {k : Nat} (h34 : ¬ k = 34) (h35 : ¬ k = 35) (h36 : ¬ k = 36) (h37 : ¬ k = 37) (h38 : ¬ k = 38) : rs5 F k = F k := by
  unfold rs5
  rw [va_up_ne _ _ h38]
  exact rs4_o h34 h35 h36 h37
theorem rs5_s (F : Nat → Nat → Int32) : rs5 F 38 = gvI (F 38) (F 58) 222 200 := by
  unfold rs5
  rw [va_up_self, rs4_o (k := 38) (by omega) (by omega) (by omega) (by omega), rs4_o (k := 58) (by omega) (by omega) (by omega) (by omega)]
theorem rs6_o {F : Nat → Nat → Int32} {k : Nat} (h34 : ¬ k = 34) (h35 : ¬ k = 35) (h36 : ¬ k = 36) (h37 : ¬ k = 37) (h38 : ¬ k = 38) (h39 : ¬ k = 39) : rs6 F k = F k := by
  unfold rs6
  rw [va_up_ne _ _ h39]
  exact rs5_o h34 h35 h36 h37 h38
theorem rs6_s (F : Nat → Nat → Int32) : rs6 F 39 = gvI (F 39) (F 58) 422 100 := by
  unfold rs6
  rw [va_up_self, rs5_o (k := 39) (by omega) (by omega) (by omega) (by omega) (by omega), rs5_o (k := 58) (by omega) (by omega) (by omega) (by omega) (by omega)]
theorem rs7_o {F : Nat → Nat → Int32} {k : Nat} (h34 : ¬ k = 34) (h35 : ¬ k = 35) (h36 : ¬ k = 36) (h37 : ¬ k = 37) (h38 : ¬ k = 38) (h39 : ¬ k = 39) (h52 : ¬ k = 52) : rs7 F k = F k := by
  unfold rs7
  rw [va_up_ne _ _ h52]
  exact rs6_o h34 h35 h36 h37 h38 h39
theorem rs7_s (F : Nat → Nat → Int32) : rs7 F 52 = gvI (F 52) (F 58) 522 20 := by
  unfold rs7
  rw [va_up_self, rs6_o (k := 52) (by omega) (by omega) (by omega) (by omega) (by omega) (by omega), rs6_o (k := 58) (by omega) (by omega) (by omega) (by omega) (by omega) (by omega)]
theorem rs8_o {F : Nat → Nat → Int32} {k : Nat} (h34 : ¬ k = 34) (h35 : ¬ k = 35) (h36 : ¬ k = 36) (h37 : ¬ k = 37) (h38 : ¬ k = 38) (h39 : ¬ k = 39) (h52 : ¬ k = 52) (h53 : ¬ k = 53) : rs8 F k = F k := by
  unfold rs8
  rw [va_up_ne _ _ h53]
  exact rs7_o h34 h35 h36 h37 h38 h39 h52
theorem rs8_s (F : Nat → Nat → Int32) : rs8 F 53 = gvI (F 53) (F 58) 542 6 := by
  unfold rs8
  rw [va_up_self, rs7_o (k := 53) (by omega) (by omega) (by omega) (by omega) (by omega) (by omega) (by omega), rs7_o (k := 58) (by omega) (by omega) (by omega) (by omega) (by omega) (by omega) (by omega)]
theorem rs9_o {F : Nat → Nat → Int32} {k : Nat} (h34 : ¬ k = 34) (h35 : ¬ k = 35) (h36 : ¬ k = 36) (h37 : ¬ k = 37) (h38 : ¬ k = 38) (h39 : ¬ k = 39) (h52 : ¬ k = 52) (h53 : ¬ k = 53) (h54 : ¬ k = 54) : rs9 F k = F k := by
  unfold rs9
  rw [va_up_ne _ _ h54]
  exact rs8_o h34 h35 h36 h37 h38 h39 h52 h53
theorem rs9_s (F : Nat → Nat → Int32) : rs9 F 54 = gvI (F 54) (F 58) 548 6 := by
  unfold rs9
  rw [va_up_self, rs8_o (k := 54) (by omega) (by omega) (by omega) (by omega) (by omega) (by omega) (by omega) (by omega), rs8_o (k := 58) (by omega) (by omega) (by omega) (by omega) (by omega) (by omega) (by omega) (by omega)]
theorem r9_34 (F : Nat → Nat → Int32) {j : Nat} (hj : j < 8) : rs9 F 34 j = F 58 (0 + j) := by
  rw [show rs9 F 34 = rs8 F 34 from va_up_ne _ _ (by omega), show rs8 F 34 = rs7 F 34 from va_up_ne _ _ (by omega), show rs7 F 34 = rs6 F 34 from va_up_ne _ _ (by omega), show rs6 F 34 = rs5 F 34 from va_up_ne _ _ (by omega), show rs5 F 34 = rs4 F 34 from va_up_ne _ _ (by omega), show rs4 F 34 = rs3 F 34 from va_up_ne _ _ (by omega), show rs3 F 34 = rs2 F 34 from va_up_ne _ _ (by omega), show rs2 F 34 = rs1 F 34 from va_up_ne _ _ (by omega), rs1_s]
  exact gv_at _ j hj
theorem r9_35 (F : Nat → Nat → Int32) {j : Nat} (hj : j < 7) : rs9 F 35 j = F 58 (8 + j) := by
  rw [show rs9 F 35 = rs8 F 35 from va_up_ne _ _ (by omega), show rs8 F 35 = rs7 F 35 from va_up_ne _ _ (by omega), show rs7 F 35 = rs6 F 35 from va_up_ne _ _ (by omega), show rs6 F 35 = rs5 F 35 from va_up_ne _ _ (by omega), show rs5 F 35 = rs4 F 35 from va_up_ne _ _ (by omega), show rs4 F 35 = rs3 F 35 from va_up_ne _ _ (by omega), show rs3 F 35 = rs2 F 35 from va_up_ne _ _ (by omega), rs2_s]
  exact gv_at _ j hj
theorem r9_36 (F : Nat → Nat → Int32) {j : Nat} (hj : j < 7) : rs9 F 36 j = F 58 (15 + j) := by
  rw [show rs9 F 36 = rs8 F 36 from va_up_ne _ _ (by omega), show rs8 F 36 = rs7 F 36 from va_up_ne _ _ (by omega), show rs7 F 36 = rs6 F 36 from va_up_ne _ _ (by omega), show rs6 F 36 = rs5 F 36 from va_up_ne _ _ (by omega), show rs5 F 36 = rs4 F 36 from va_up_ne _ _ (by omega), show rs4 F 36 = rs3 F 36 from va_up_ne _ _ (by omega), rs3_s]
  exact gv_at _ j hj
theorem r9_37 (F : Nat → Nat → Int32) {j : Nat} (hj : j < 200) : rs9 F 37 j = F 58 (22 + j) := by
  rw [show rs9 F 37 = rs8 F 37 from va_up_ne _ _ (by omega), show rs8 F 37 = rs7 F 37 from va_up_ne _ _ (by omega), show rs7 F 37 = rs6 F 37 from va_up_ne _ _ (by omega), show rs6 F 37 = rs5 F 37 from va_up_ne _ _ (by omega), show rs5 F 37 = rs4 F 37 from va_up_ne _ _ (by omega), rs4_s]
  exact gv_at _ j hj
theorem r9_38 (F : Nat → Nat → Int32) {j : Nat} (hj : j < 200) : rs9 F 38 j = F 58 (222 + j) := by
  rw [show rs9 F 38 = rs8 F 38 from va_up_ne _ _ (by omega), show rs8 F 38 = rs7 F 38 from va_up_ne _ _ (by omega), show rs7 F 38 = rs6 F 38 from va_up_ne _ _ (by omega), show rs6 F 38 = rs5 F 38 from va_up_ne _ _ (by omega), rs5_s]
  exact gv_at _ j hj
theorem r9_39 (F : Nat → Nat → Int32) {j : Nat} (hj : j < 100) : rs9 F 39 j = F 58 (422 + j) := by
  rw [show rs9 F 39 = rs8 F 39 from va_up_ne _ _ (by omega), show rs8 F 39 = rs7 F 39 from va_up_ne _ _ (by omega), show rs7 F 39 = rs6 F 39 from va_up_ne _ _ (by omega), rs6_s]
  exact gv_at _ j hj
theorem r9_52 (F : Nat → Nat → Int32) {j : Nat} (hj : j < 20) : rs9 F 52 j = F 58 (522 + j) := by
  rw [show rs9 F 52 = rs8 F 52 from va_up_ne _ _ (by omega), show rs8 F 52 = rs7 F 52 from va_up_ne _ _ (by omega), rs7_s]
  exact gv_at _ j hj
theorem r9_53 (F : Nat → Nat → Int32) {j : Nat} (hj : j < 6) : rs9 F 53 j = F 58 (542 + j) := by
  rw [show rs9 F 53 = rs8 F 53 from va_up_ne _ _ (by omega), rs8_s]
  exact gv_at _ j hj
theorem r9_54 (F : Nat → Nat → Int32) {j : Nat} (hj : j < 6) : rs9 F 54 j = F 58 (548 + j) := by
  rw [rs9_s]
  exact gv_at _ j hj
theorem LSe.cgO {h : AH} {n c ci np : Nat} {O O' : Nat → List Value} {mo : Int32} {e : Nat} (ls : LSe h n c ci np O mo e) (ho : ∀ j, j < np → O j = O' j) : LSe h n c ci np O' mo e := by
  obtain ⟨h1, h2, h3⟩ := ls
  refine ⟨h1, h2, ?_⟩
  rcases h3 with q | ⟨q1, q2, f, q3, q4⟩
  · exact Or.inl q
  · refine Or.inr ⟨q1, q2, f, q3, fun j hj => ?_⟩
    obtain ⟨p, p1, p2, p3, p4⟩ := q4 j hj
    exact ⟨p, p1, p2, p3, by rw [← ho j hj]; exact p4⟩
/-- what is told after restore, told anew by the image: rows that are alike -/
def swH (h : AH) (F : Nat → Nat → Int32) : AH := va_up (va_up (va_up (va_up (va_up (va_up h 3 (some (IA 8 (F 34)))) 4 (some (IA 7 (frX (F 35))))) 5 (some (IA 7 (F 36)))) 6 (some (BA 200 (F 37)))) 7 (some (BA 200 (F 38)))) 8 (some (BA 100 (F 39)))
theorem swH_o {h : AH} {F : Nat → Nat → Int32} {k : Nat} (hk : ¬ (3 ≤ k ∧ k ≤ 8)) : swH h F k = h k := by
  unfold swH
  rw [va_up_ne _ _ (by omega), va_up_ne _ _ (by omega), va_up_ne _ _ (by omega), va_up_ne _ _ (by omega), va_up_ne _ _ (by omega), va_up_ne _ _ (by omega)]
theorem swH_x {h : AH} {F : Nat → Nat → Int32} (h2 : h 2 = some TO0) : XT F (swH h F) := ⟨(swH_o (by omega)).trans h2, rfl, rfl, rfl, rfl, rfl, rfl⟩
theorem swH_r {G : GW} {h : AH} {n : Nat} {F F0 : Nat → Nat → Int32} (xt : XT F0 h) (h34 : ∀ j, j < 8 → F0 34 j = F 34 j) (h35 : ∀ j, j < 7 → F0 35 j = F 35 j) (h36 : ∀ j, j < 7 → F0 36 j = F 36 j) (h37 : ∀ j, j < 200 → F0 37 j = F 37 j) (h38 : ∀ j, j < 200 → F0 38 j = F 38 j) (h39 : ∀ j, j < 100 → F0 39 j = F 39 j) (H : Heap) (hR : HR G h n H) : HR G (swH h F) n H := by
  unfold swH
  have r1 := hR.arrI (g := F 34) xt.2.1 h34
  have r2 := r1.arrI (a := 4) (g := frX (F 35)) (f := frX (F0 35)) ((va_up_ne _ _ (by omega)).trans xt.2.2.1) (fun j hj => by unfold frX; rw [h35 j hj])
  have r3 := r2.arrI (a := 5) (g := F 36) (f := F0 36) ((va_up_ne _ _ (by omega)).trans ((va_up_ne _ _ (by omega)).trans xt.2.2.2.1)) h36
  have r4 := r3.arrI (a := 6) (g := F 37) (f := F0 37) ((va_up_ne _ _ (by omega)).trans ((va_up_ne _ _ (by omega)).trans ((va_up_ne _ _ (by omega)).trans xt.2.2.2.2.1))) h37
  have r5 := r4.arrI (a := 7) (g := F 38) (f := F0 38) ((va_up_ne _ _ (by omega)).trans ((va_up_ne _ _ (by omega)).trans ((va_up_ne _ _ (by omega)).trans ((va_up_ne _ _ (by omega)).trans xt.2.2.2.2.2.1)))) h38
  exact r5.arrI (a := 8) (g := F 39) (f := F0 39) ((va_up_ne _ _ (by omega)).trans ((va_up_ne _ _ (by omega)).trans ((va_up_ne _ _ (by omega)).trans ((va_up_ne _ _ (by omega)).trans ((va_up_ne _ _ (by omega)).trans xt.2.2.2.2.2.2))))) h39
theorem WX.sw {sx : Nat → Int32} {F F' Fk : Nat → Nat → Int32} {np nd npk ndk e1 e2 e3 e4 : Nat} {rr : Nat → Nat} {h : AH} {n : Nat} (w : WX sx F Fk np nd npk ndk e1 e2 e3 e4 rr h n) (e : ∀ k, k = 40 ∨ (59 ≤ k ∧ k ≤ 61) → F' k = F k) (hp : ∀ j, j < np → pcO F j = pcO F' j) (hd : ∀ j, j < nd → drO F j = drO F' j) : WX sx F' Fk np nd npk ndk e1 e2 e3 e4 rr (swH h F') n := by
  obtain ⟨w0, w1, w2, ⟨m3, w3⟩, ⟨m4, w4⟩, ⟨p5, w5⟩, w6, ⟨⟨f1, s1⟩, ⟨f2, s2⟩, ⟨f3, s3⟩, ⟨f4, s4⟩, ⟨f5, s5⟩, f6, s6⟩, w8, ⟨m9, w9⟩, ⟨m10, w10⟩, w11, w12, w13, w14⟩ := w
  have eh : ∀ k, k < n → 63 ≤ k → swH h F' k = h k := fun k _ k2 => swH_o (by omega)
  refine ⟨w0, (swH_o (by omega)).trans w1, swH_x w2.1, ⟨m3, (w3.kp (Nat.le_refl _) (swH_o (by omega)) eh).cgO hp⟩, ⟨m4, (w4.kp (Nat.le_refl _) (swH_o (by omega)) eh).cgO hd⟩, ⟨p5, (swH_o (by omega)).trans w5⟩, ?_, ⟨⟨f1, (swH_o (by omega)).trans s1⟩, ⟨f2, (swH_o (by omega)).trans s2⟩, ⟨f3, (swH_o (by omega)).trans s3⟩, ⟨f4, (swH_o (by omega)).trans s4⟩, ⟨f5, (swH_o (by omega)).trans s5⟩, f6, (swH_o (by omega)).trans s6⟩, w8.kp (fun k k1 k2 => swH_o (by omega)), ⟨m9, w9.kp (Nat.le_refl _) (swH_o (by omega)) eh⟩, ⟨m10, w10.kp (Nat.le_refl _) (swH_o (by omega)) eh⟩, w11, (w12.kp w0 (Nat.le_refl _) (fun k k1 k2 => swH_o (by omega))).cg (e 59 (by omega)) (e 60 (by omega)) (e 61 (by omega)), ?_, ?_⟩
  · rw [e 40 (by omega)]; exact (swH_o (by omega)).trans w6
  · unfold rrD; rw [e 59 (by omega)]; exact w13
  · rw [e 59 (by omega)]; exact w14
theorem VD.al {F F' : Nat → Nat → Int32} {np nd : Nat} (v : VD F np nd) (h34 : ∀ j, j < 8 → F' 34 j = F 34 j) (h35 : ∀ j, j < 7 → F' 35 j = F 35 j) (h37 : ∀ j, j < 200 → F' 37 j = F 37 j) (h38 : ∀ j, j < 200 → F' 38 j = F 38 j) (h39 : ∀ j, j < 100 → F' 39 j = F 39 j) (h52 : ∀ j, j < 20 → F' 52 j = F 52 j) (h54 : ∀ j, j < 6 → F' 54 j = F 54 j) : VD F' np nd := by
  obtain ⟨⟨a, b, H, T, S, U, g, wd, w1, w2, w3, w4, w5, w6, w7, w8, w9, w10, w11, w12, w13, w14, w15, w16, w17, w18⟩, ⟨o1, o2, o3, o4⟩, ⟨b1, b2, b3⟩, v4, v5, v6⟩ := v
  refine ⟨⟨a, b, H, T, S, U, g, wd, (h34 0 (by omega)).trans w1, w2, (h34 1 (by omega)).trans w3, w4, (h34 2 (by omega)).trans w5, w6, w7, (h34 3 (by omega)).trans w8, w9, (h34 4 (by omega)).trans w10, w11, (h34 5 (by omega)).trans w12, w13, (h34 6 (by omega)).trans w14, w15, (h34 7 (by omega)).trans w16, w17, fun j hj => ?_⟩, ⟨fun j hj => ?_, fun j hj => ?_, fun j hj => ?_, ?_⟩, ⟨fun j hj => ?_, fun j hj => ?_, fun j hj => ?_⟩, fun j hj => ?_, v5, v6⟩
  · rw [h35 j hj]; exact w18 j hj
  · rw [h52 _ (by omega), h52 _ (by omega)]; exact o1 j hj
  · rw [h54 j (by omega)]; exact o2 j hj
  · rw [h37 j hj]; exact o3 j hj
  · rw [h34 7 (by omega)]; exact o4
  · rw [h37 j hj]; exact b1 j hj
  · rw [h38 j hj]; exact b2 j hj
  · rw [h39 j hj]; exact b3 j hj
  · rw [h35 j hj]; exact v4 j hj
section OPT4
variable {l : Launch} {G : GW} {h : AH} {n : Nat}
theorem op_image (wo : WO h n) : OPP l G yX0_image yX4_image cX0_image cX4_image 1 2 (some .int) 9 2 4 40 [] h n := by
  obtain ⟨sx, s, al, F, FL, Fk, np, nd, npk, ndk, e1, e2, e3, e4, tp, rr, w, mc, v⟩ := wo
  have w' := w
  obtain ⟨w0, x1, xt, ⟨m3, w3⟩, ⟨m4, w4⟩, w5, w6, sc, -, -, -, dj, sh, dd, dz⟩ := w'
  have v' := v
  obtain ⟨vd, vk, vs, vt, vp, h7, hx3, h25, h27, hx18, -⟩ := v'
  have vd' := vd
  obtain ⟨⟨a, b, H, T, S, U, g, wd, wk⟩, ok, by_, hR1, h4, h5⟩ := vd'
  have mk := mkc_of wk ok h25 h27 h4 h5
  have w2 := w
  obtain ⟨-, -, -, -, -, -, -, -, k8, ⟨m9, k9⟩, ⟨m10, k10⟩, -⟩ := w2
  obtain ⟨d1, d2, d3, d4⟩ := dj
  refine OPP.t (p := imgP s F) mc (xc_image x1 w0 k8 (XTd.x.mpr xt) by_ k9 k10 w3 w4 (fun z => (d3 z).2.2) (fun z => (d3 z).1) (fun z => (d3 z).2.1) (fun z => (d4 z).1) (fun z => (d4 z).2.1)) (fun r h1 n1 q => ?_) (fun h1 n1 mc1 => mc_image mc1)
  obtain ⟨q1, q2, q3, sx', y3, y4, q4, q5, q6⟩ := w.i q
  refine ⟨q1, q3, sx', F, np, nd, np, nd, e1, e2, y3, y4, tp, rr, q6.cg2 (fun k hk => img_o hk), ?_⟩
  exact ⟨vd.cg (fun k hk => img_o (by omega)), vd, vs.cg (fun k hk => img_o (by omega)), by rw [img_o (by omega)]; exact vt, vp, (show upd s 37 1 7 = _ from pk_un (by omega)).trans h7, q4.trans hx3, (show upd s 37 1 25 = _ from pk_un (by omega)).trans h25, (show upd s 37 1 27 = _ from pk_un (by omega)).trans h27, q5.trans (show (1 : Int32) = upd s 37 1 37 from pk_us.symm), fun _ => img_ok h25 h27⟩
theorem op_restore (wo : WO h n) : OPP l G yX0_restore yX4_restore cX0_restore cX4_restore 1 2 (some .int) 9 2 4 40 [] h n := by
  obtain ⟨sx, s, al, F, FL, Fk, np, nd, npk, ndk, e1, e2, e3, e4, tp, rr, w, mc, v⟩ := wo
  have w' := w
  obtain ⟨w0, x1, xt, ⟨m3, w3⟩, ⟨m4, w4⟩, w5, w6, sc, -, -, -, dj, sh, dd, dz⟩ := w'
  have v' := v
  obtain ⟨vd, vk, vs, vt, vp, h7, hx3, h25, h27, hx18, -⟩ := v'
  have vd' := vd
  obtain ⟨⟨a, b, H, T, S, U, g, wd, wk⟩, ok, by_, hR1, h4, h5⟩ := vd'
  have mk := mkc_of wk ok h25 h27 h4 h5
  have hv := v
  obtain ⟨-, -, -, -, -, -, -, -, -, -, him⟩ := hv
  have w2 := w
  obtain ⟨-, -, -, -, -, -, -, -, k8, ⟨m9, k9⟩, ⟨m10, k10⟩, -⟩ := w2
  obtain ⟨d1, d2, d3, d4⟩ := dj
  have vk' := vk
  obtain ⟨-, -, kby, -, k4, k5⟩ := vk'
  refine ⟨_, xc_restore x1 w0 (XTd.x.mpr xt) k8 kby w3 w4 k9 k10 (fun z => (d1 z).1) (fun z => (d1 z).2.1) (fun z => (d1 z).2.2) (fun z => (d2 z).2.1) (fun z => (d2 z).2.2), fun r h1 n1 q => ?_⟩
  rcases q with ⟨c0, rfl, rfl, rfl⟩ | ⟨c0, q⟩
  · refine ⟨_, rfl, ⟨_, rfl⟩, ⟨_, mc.1⟩, AM.post (fun r' h' n' q' => ?_) (mc_restore mc)⟩
    have ep : rstP s F = (-4, s, F) := by
      unfold rstP
      rw [if_neg (not_not_intro (hx18.symm.trans c0))]
    rw [ep] at q'
    obtain ⟨p1, p2, p3⟩ := WW.m w v q'
    exact ⟨p1, p3⟩
  · have c37 : ¬ s 37 = 0 := fun z => c0 (hx18.trans z)
    obtain ⟨i34, i35, i36, i37, i38, i39, i52, i53, i54, in1, in2⟩ := him c37
    obtain ⟨q1, q2, q3, sx', y1, y2, q4, q5, q6⟩ := w.r q
    have a34 : ∀ j, j < 8 → rs9 F 34 j = Fk 34 j := fun j hj => (r9_34 F hj).trans (by rw [Nat.zero_add]; exact i34 j hj)
    have a35 : ∀ j, j < 7 → rs9 F 35 j = Fk 35 j := fun j hj => (r9_35 F hj).trans (i35 j hj)
    have a36 : ∀ j, j < 7 → rs9 F 36 j = Fk 36 j := fun j hj => (r9_36 F hj).trans (i36 j hj)
    have a37 : ∀ j, j < 200 → rs9 F 37 j = Fk 37 j := fun j hj => (r9_37 F hj).trans (i37 j hj)
    have a38 : ∀ j, j < 200 → rs9 F 38 j = Fk 38 j := fun j hj => (r9_38 F hj).trans (i38 j hj)
    have a39 : ∀ j, j < 100 → rs9 F 39 j = Fk 39 j := fun j hj => (r9_39 F hj).trans (i39 j hj)
    have a52 : ∀ j, j < 20 → rs9 F 52 j = Fk 52 j := fun j hj => (r9_52 F hj).trans (i52 j hj)
    have a53 : ∀ j, j < 6 → rs9 F 53 j = Fk 53 j := fun j hj => (r9_53 F hj).trans (i53 j hj)
    have a54 : ∀ j, j < 6 → rs9 F 54 j = Fk 54 j := fun j hj => (r9_54 F hj).trans (i54 j hj)
    have ro : ∀ k, ¬ (34 ≤ k ∧ k ≤ 39) → ¬ (52 ≤ k ∧ k ≤ 54) → rs9 F k = F k := fun k k1 k2 => rs9_o (by omega) (by omega) (by omega) (by omega) (by omega) (by omega) (by omega) (by omega) (by omega)
    have mo : ∀ k, ¬ (34 ≤ k ∧ k ≤ 39) → ¬ (52 ≤ k ∧ k ≤ 54) → mixF F Fk k = F k := fun k k1 k2 => if_neg (by omega)
    have mi : ∀ k, (34 ≤ k ∧ k ≤ 39) ∨ (52 ≤ k ∧ k ≤ 54) → mixF F Fk k = Fk k := fun k hk => if_pos hk
    have q7 := q6.sw (F' := rs9 F) (fun k hk => (ro k (by omega) (by omega)).trans (mo k (by omega) (by omega)).symm) (fun j hj => by
      unfold pcO
      rw [mi 52 (by omega), a52 _ (by omega), a52 _ (by omega), a52 _ (by omega), a52 _ (by omega), a52 _ (by omega)]) (fun j hj => by
      unfold drO
      rw [mi 53 (by omega), mi 54 (by omega), a53 _ (by omega), a54 _ (by omega)])
    have ep : rstP s F = (1, upd (upd s 25 (rs9 F 58 554)) 27 (rs9 F 58 555), rs9 F) := by
      unfold rstP
      rw [if_pos c37]
    have e58 : rs9 F 58 = F 58 := ro 58 (by omega) (by omega)
    have v2 : VV sx' (rstP s F).2.1 (rstP s F).2.2 Fk npk ndk npk ndk tp := by
      rw [ep]
      dsimp only
      rw [e58]
      refine ⟨vk.al a34 a35 a37 a38 a39 a52 a54, vk, vs.cg (fun k hk => ro k (by omega) (by omega)), by rw [ro 40 (by omega) (by omega)]; exact vt, vp, ?_, q4.trans hx3, ?_, ?_, ?_, fun _ => (him c37).cg e58⟩
      · rw [pk_un (by omega), pk_un (by omega)]; exact h7
      · rw [pk_un (by omega), pk_us]; exact in1
      · rw [pk_us]; exact in2
      · rw [pk_un (by omega), pk_un (by omega)]; exact q5.trans hx18
    have xt6 := q6.2.2.1
    have m34 := mi 34 (by omega)
    refine ⟨_, q1, ⟨_, rfl⟩, ⟨_, (mc.kp q3).1⟩, AM.hr (h' := swH h1 (rs9 F)) (fun H hR => swH_r xt6 (fun j hj => by rw [mi 34 (by omega)]; exact (a34 j hj).symm) (fun j hj => by rw [mi 35 (by omega)]; exact (a35 j hj).symm) (fun j hj => by rw [mi 36 (by omega)]; exact (a36 j hj).symm) (fun j hj => by rw [mi 37 (by omega)]; exact (a37 j hj).symm) (fun j hj => by rw [mi 38 (by omega)]; exact (a38 j hj).symm) (fun j hj => by rw [mi 39 (by omega)]; exact (a39 j hj).symm) H hR) (AM.post (fun r' h' n' q' => ?_) (mc_restore (mc.kp (fun k hk => (swH_o (by omega)).trans (q3 k hk)))))⟩
    have q8 : WX sx' (rstP s F).2.2 Fk npk ndk npk ndk y1 y2 e3 e4 rr (swH h1 (rs9 F)) n1 := by rw [ep]; exact q7
    obtain ⟨p1, p2, p3⟩ := WW.m q8 v2 q'
    exact ⟨by rw [p1, ep], p3⟩
end OPT4
