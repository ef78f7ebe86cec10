/-! THE WORLD of both: what is told is right, what is kept, how both stand to each other -/
set_option maxRecDepth 100000
def VD (F : Nat → Nat → Int32) (np nd : Nat) : Prop := (∃ a b H T S U g wd, WKc F a b H T S U g wd) ∧ OKP F np nd ∧ byF F ∧ (∀ j, j < 7 → F 35 j < 0 → F 35 j = -1) ∧ np ≤ 4 ∧ nd ≤ 4
def VS (F : Nat → Nat → Int32) : Prop := (∀ t, t < 4 → ∃ z, z ≤ 16 ∧ F 60 t = nI z) ∧ rwF F
def IMG (F Fk : Nat → Nat → Int32) (npk ndk : Nat) : Prop := (∀ j, j < 8 → F 58 j = Fk 34 j) ∧ (∀ j, j < 7 → F 58 (8 + j) = Fk 35 j) ∧ (∀ j, j < 7 → F 58 (15 + j) = Fk 36 j) ∧ (∀ j, j < 200 → F 58 (22 + j) = Fk 37 j) ∧ (∀ j, j < 200 → F 58 (222 + j) = Fk 38 j) ∧ (∀ j, j < 100 → F 58 (422 + j) = Fk 39 j) ∧ (∀ j, j < 20 → F 58 (522 + j) = Fk 52 j) ∧ (∀ j, j < 6 → F 58 (542 + j) = Fk 53 j) ∧ (∀ j, j < 6 → F 58 (548 + j) = Fk 54 j) ∧ F 58 554 = nI npk ∧ F 58 555 = nI ndk
/-- all that is known of the numbers -/
def VV (sx s : Nat → Int32) (F Fk : Nat → Nat → Int32) (np nd npk ndk tp : Nat) : Prop := VD F np nd ∧ VD Fk npk ndk ∧ VS F ∧ okT (F 40) tp ∧ tp ≤ 60 ∧ s 7 = nI tp ∧ sx 3 = nI tp ∧ s 25 = nI np ∧ s 27 = nI nd ∧ sx 18 = s 37 ∧ (¬ s 37 = 0 → IMG F Fk npk ndk)
def WW (sx s : Nat → Int32) (al : Int64) (F : Nat → Nat → Int32) (FL : Nat → Int64) (Fk : Nat → Nat → Int32) (np nd npk ndk e1 e2 e3 e4 tp : Nat) (rr : Nat → Nat) (h : AH) (n : Nat) : Prop := WX sx F Fk np nd npk ndk e1 e2 e3 e4 rr h n ∧ MC s al F FL h ∧ VV sx s F Fk np nd npk ndk tp
def WO (h : AH) (n : Nat) : Prop := ∃ sx s al F FL Fk np nd npk ndk e1 e2 e3 e4 tp rr, WW sx s al F FL Fk np nd npk ndk e1 e2 e3 e4 tp rr h n
theorem MC.kp {s : Nat → Int32} {al : Int64} {F : Nat → Nat → Int32} {FL : Nat → Int64} {h h' : AH} (mc : MC s al F FL h) (e : ∀ k, 33 ≤ k ∧ k < 63 → h' k = h k) : MC s al F FL h' :=
  ⟨(e 33 (by omega)).trans mc.1, (e 55 (by omega)).trans mc.2.1, fun k h1 h2 h3 => (e k (by omega)).trans (mc.2.2 k h1 h2 h3)⟩
theorem VD.cg {F F' : Nat → Nat → Int32} {np nd : Nat} (v : VD F np nd) (e : ∀ k, (34 ≤ k ∧ k ≤ 39) ∨ (52 ≤ k ∧ k ≤ 54) → F' k = F k) : VD F' np nd := by
  obtain ⟨⟨a, b, H, T, S, U, g, wd, v1⟩, v2, v3, v4, v5⟩ := v
  refine ⟨⟨a, b, H, T, S, U, g, wd, ?_⟩, ?_, ?_, ?_, v5⟩
  · unfold WKc; rw [e 34 (by omega), e 35 (by omega)]; exact v1
  · unfold OKP; rw [e 34 (by omega), e 37 (by omega), e 52 (by omega), e 54 (by omega)]; exact v2
  · unfold byF; rw [e 37 (by omega), e 38 (by omega), e 39 (by omega)]; exact v3
  · rw [e 35 (by omega)]; exact v4
theorem VS.cg {F F' : Nat → Nat → Int32} (v : VS F) (e : ∀ k, 59 ≤ k ∧ k ≤ 61 → F' k = F k) : VS F' := by
  unfold VS rwF at v ⊢
  rw [e 59 (by omega), e 60 (by omega), e 61 (by omega)]
  exact v
theorem IMG.cg {F F' Fk : Nat → Nat → Int32} {npk ndk : Nat} (v : IMG F Fk npk ndk) (e : F' 58 = F 58) : IMG F' Fk npk ndk := by
  unfold IMG at v ⊢
  rw [e]
  exact v
theorem VV.cg {sx s s' : Nat → Int32} {F F' Fk : Nat → Nat → Int32} {np nd npk ndk tp : Nat} (v : VV sx s F Fk np nd npk ndk tp) (k : keepM s F s' F') : VV sx s' F' Fk np nd npk ndk tp := by
  obtain ⟨v1, v2, v3, v4, v5, v6, v7, v8, v9, v10, v11⟩ := v
  obtain ⟨k1, k2, k3, k4, k5⟩ := k
  have hp : ∀ k, (34 ≤ k ∧ k ≤ 39) ∨ (52 ≤ k ∧ k ≤ 54) → perM k = true := by
    intro k hk
    have h1 : ∀ k, k < 40 → 34 ≤ k → perM k = true := by decide
    have h2 : ∀ k, k < 55 → 52 ≤ k → perM k = true := by decide
    rcases hk with hk | hk
    · exact h1 k (by omega) hk.1
    · exact h2 k (by omega) hk.1
  have hs : ∀ k, 59 ≤ k ∧ k ≤ 61 → perM k = true := by
    intro k hk
    have h1 : ∀ k, k < 62 → 59 ≤ k → perM k = true := by decide
    exact h1 k (by omega) hk.1
  exact ⟨v1.cg (fun k hk => k1 k (hp k hk)), v2, v3.cg (fun k hk => k1 k (hs k hk)), by rw [k1 40 rfl]; exact v4, v5, k2.trans v6, v7, k3.trans v8, k4.trans v9, by rw [k5]; exact v10, fun hk => (v11 (by rw [← k5]; exact hk)).cg (k1 58 rfl)⟩
theorem VV.sx {sx sx' s : Nat → Int32} {F Fk : Nat → Nat → Int32} {np nd npk ndk tp : Nat} (v : VV sx s F Fk np nd npk ndk tp) (k : kpS sx sx') : VV sx' s F Fk np nd npk ndk tp := by
  obtain ⟨v1, v2, v3, v4, v5, v6, v7, v8, v9, v10, v11⟩ := v
  exact ⟨v1, v2, v3, v4, v5, v6, k.1.trans v7, v8, v9, k.2.trans v10, v11⟩
section WOS
variable {sx s : Nat → Int32} {al : Int64} {F : Nat → Nat → Int32} {FL : Nat → Int64} {Fk : Nat → Nat → Int32} {np nd npk ndk e1 e2 e3 e4 tp : Nat} {rr : Nat → Nat} {h h' : AH} {n n' : Nat}
/-- behind a query of the component -/
theorem WW.q {ans : Value} {r : Option Value} (w : WW sx s al F FL Fk np nd npk ndk e1 e2 e3 e4 tp rr h n) (q : XQ sx h n ans r h' n') : r = some ans ∧ n ≤ n' ∧ ∃ sx', WW sx' s al F FL Fk np nd npk ndk e1 e2 e3 e4 tp rr h' n' := by
  obtain ⟨w1, w2, w3⟩ := w
  obtain ⟨q1, q2, q3, sx', q4, q5⟩ := w1.q q
  have := w1.1
  exact ⟨q1, q2, sx', q5, w2.kp (fun k hk => q3 k (by omega) (by omega)), w3.sx q4⟩
/-- behind the reference: v is what the spec says of the numbers -/
theorem WW.m {sm : Nat → Int32} {G : Nat → Nat → Int32} {ans : Value} {r : Option Value} (w1 : WX sx G Fk np nd npk ndk e1 e2 e3 e4 rr h n) (v : VV sx sm G Fk np nd npk ndk tp) (q : OpQ sm G h n ans r h' n') : r = some ans ∧ n' = n ∧ WO h' n' := by
  obtain ⟨q1, q2, q3, s', al', F', FL', q4, q5⟩ := q
  subst q1
  exact ⟨q2, rfl, sx, s', al', F', FL', Fk, np, nd, npk, ndk, e1, e2, e3, e4, tp, rr, (w1.m q3).cg q5.1, q4, v.cg q5⟩
end WOS
/-- an int or a long, as the method says -/
def okV (ret : Option FieldType) (v : Value) : Prop := match ret with
  | some .long => ∃ z, v = .long z
  | _ => ∃ z, v = .int z
/-- a pair of calls that answer alike; nX: how many cells the component may take -/
def OPP (l : Launch) (G : GW) (yx ym : MethodName) (cx cm : ByteArray) (nx nm : Nat) (ret : Option FieldType) (fx fm mcx msx : Nat) (As : List Value) (h : AH) (n : Nat) : Prop :=
  ∃ Q1, AM l G yx cx nx ret fx mcx msx (.ref 1 :: As) h n Q1 ∧ ∀ r h1 n1, Q1 r h1 n1 → ∃ v, r = some v ∧ okV ret v ∧ (∃ fs, h1 33 = some (OB 4 fs)) ∧ AM l G ym cm nm ret fm 0 0 (.ref 33 :: As) h1 n1 (fun r' h' n' => r' = some v ∧ WO h' n')
def OPW (l : Launch) (G : GW) (yx ym : MethodName) (cx cm : ByteArray) (nx nm : Nat) (ret : Option FieldType) (fx fm mcx msx : Nat) (As : List Value) (h : AH) (n : Nat) : Prop :=
  ∃ Q1, AMW l G yx cx nx ret fx mcx msx (.ref 1 :: As) h n Q1 ∧ ∀ r h1 n1, Q1 r h1 n1 → ∃ v, r = some v ∧ okV ret v ∧ (∃ fs, h1 33 = some (OB 4 fs)) ∧ AM l G ym cm nm ret fm 0 0 (.ref 33 :: As) h1 n1 (fun r' h' n' => r' = some v ∧ WO h' n')
theorem OPP.q {l : Launch} {G : GW} {yx ym : MethodName} {cx cm : ByteArray} {nx nm : Nat} {ret : Option FieldType} {fx fm mcx msx : Nat} {As : List Value} {sx s : Nat → Int32} {al : Int64} {F : Nat → Nat → Int32} {FL : Nat → Int64} {Fk : Nat → Nat → Int32} {np nd npk ndk e1 e2 e3 e4 tp : Nat} {rr : Nat → Nat} {h : AH} {n : Nat} {ans : Value} (w : WW sx s al F FL Fk np nd npk ndk e1 e2 e3 e4 tp rr h n)
    (hx : AM l G yx cx nx ret fx mcx msx (.ref 1 :: As) h n (XQ sx h n ans)) (hm : ∀ sx' h1 n1, WW sx' s al F FL Fk np nd npk ndk e1 e2 e3 e4 tp rr h1 n1 → AM l G ym cm nm ret fm 0 0 (.ref 33 :: As) h1 n1 (OpQ s F h1 n1 ans)) (hv : okV ret ans := by exact ⟨_, rfl⟩) : OPP l G yx ym cx cm nx nm ret fx fm mcx msx As h n := by
  refine ⟨_, hx, fun r h1 n1 q => ?_⟩
  obtain ⟨q1, q2, sx', q3⟩ := w.q q
  refine ⟨ans, q1, hv, ⟨_, q3.2.1.1⟩, AM.post (fun r' h' n' q' => ?_) (hm sx' h1 n1 q3)⟩
  obtain ⟨p1, p2, p3⟩ := WW.m q3.1 q3.2.2 q'
  exact ⟨p1, p3⟩
