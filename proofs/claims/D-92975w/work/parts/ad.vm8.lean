/-! System.arraycopy that throws: the note over the native's frame; what its text may be -/
set_option maxRecDepth 100000
def cpF (sT dT : FieldType) (sl dl : Nat) (a b n : Int32) : String :=
  if a < 0 then toString "source index " ++ toString a ++ toString " out of bounds for " ++ toString (toString (Native.java_lang_System.arraycopy.kindName sT) ++ toString "[" ++ toString sl ++ toString "]")
  else if b < 0 then toString "destination index " ++ toString b ++ toString " out of bounds for " ++ toString (toString (Native.java_lang_System.arraycopy.kindName dT) ++ toString "[" ++ toString dl ++ toString "]")
  else if n < 0 then toString "length " ++ toString n ++ toString " is negative"
  else if a.toInt + n.toInt > sl then toString "last source index " ++ toString (a.toInt + n.toInt) ++ toString " out of bounds for " ++ toString (toString (Native.java_lang_System.arraycopy.kindName sT) ++ toString "[" ++ toString sl ++ toString "]")
  else toString "last destination index " ++ toString (b.toInt + n.toInt) ++ toString " out of bounds for " ++ toString (toString (Native.java_lang_System.arraycopy.kindName dT) ++ toString "[" ++ toString dl ++ toString "]")
def cpM (sT dT : FieldType) : String := toString "arraycopy: type mismatch: can not copy " ++ toString (Native.java_lang_System.arraycopy.kindName sT) ++ toString "[] into " ++ toString (Native.java_lang_System.arraycopy.kindName dT) ++ toString "[]"
theorem int_print {x : Int} (h1 : -10 ^ 10 < x) (h2 : x < 10 ^ 10) : (toString x).toList.length ≤ 11 := by
  show (Int.repr x).toList.length ≤ 11
  cases x with
  | ofNat m =>
    have := nat_print (n := m) (by have : (m : Int) < 10 ^ 10 := h2; omega)
    show (toString m).toList.length ≤ 11
    omega
  | negSucc m =>
    have := nat_print (n := m.succ) (by have : -10 ^ 10 < -((m : Int) + 1) := by simpa [Int.negSucc_eq] using h1
                                        omega)
    show ("-" ++ toString m.succ).toList.length ≤ 11
    rw [String.toList_append, List.length_append]
    have h0 : "-".toList.length = 1 := by decide
    omega
theorem kind_len (t : FieldType) : (Native.java_lang_System.arraycopy.kindName t).toList.length ≤ 12 := by
  cases t <;> first | decide | exact (by decide : "object array".toList.length ≤ 12)
theorem row_len (t : FieldType) {z : Nat} (hz : z ≤ 1000) : (toString (toString (Native.java_lang_System.arraycopy.kindName t) ++ toString "[" ++ toString z ++ toString "]")).toList.length ≤ 30 := by
  show (Native.java_lang_System.arraycopy.kindName t ++ "[" ++ toString z ++ "]").toList.length ≤ 30
  simp only [String.toList_append, List.length_append]
  have a1 := kind_len t
  have a2 := nat_print (n := z) (by omega)
  have a3 : "[".toList.length = 1 := by decide
  have a4 : "]".toList.length = 1 := by decide
  omega
theorem cpF_len {sT dT : FieldType} {sl dl : Nat} {a b n : Int32} (h1 : sl ≤ 1000) (h2 : dl ≤ 1000) : (cpF sT dT sl dl a b n).toList.length ≤ 200 := by
  have r1 := row_len sT h1
  have r2 := row_len dT h2
  have p1 := int32_print a
  have p2 := int32_print b
  have p3 := int32_print n
  have i1 := Int32.toInt_lt a
  have i2 := Int32.le_toInt a
  have i3 := Int32.toInt_lt b
  have i4 := Int32.le_toInt b
  have i5 := Int32.toInt_lt n
  have i6 := Int32.le_toInt n
  have p4 := int_print (x := a.toInt + n.toInt) (by omega) (by omega)
  have p5 := int_print (x := b.toInt + n.toInt) (by omega) (by omega)
  have l1 : (toString "source index ").toList.length = 13 := by decide
  have l2 : (toString " out of bounds for ").toList.length = 19 := by decide
  have l3 : (toString "destination index ").toList.length = 18 := by decide
  have l4 : (toString "length ").toList.length = 7 := by decide
  have l5 : (toString " is negative").toList.length = 12 := by decide
  have l6 : (toString "last source index ").toList.length = 18 := by decide
  have l7 : (toString "last destination index ").toList.length = 23 := by decide
  unfold cpF
  split
  · simp only [String.toList_append, List.length_append] at *; omega
  split
  · simp only [String.toList_append, List.length_append] at *; omega
  split
  · simp only [String.toList_append, List.length_append] at *; omega
  split
  · simp only [String.toList_append, List.length_append] at *; omega
  · simp only [String.toList_append, List.length_append] at *; omega
theorem ac_text {w : String} (h : w.toList.length ≤ 200) : (("arraycopy: " ++ w) == notModelled) = false ∧ (stringBytes (stringToUtf16 ("arraycopy: " ++ w))).size ≤ 4000 := by
  constructor
  · rw [beq_eq_false_iff_ne]
    intro e
    have e2 := congrArg String.toList e
    rw [String.toList_append] at e2
    have e3 : "arraycopy: ".toList = 'a' :: "rraycopy: ".toList := by decide
    have e4 : notModelled.toList = '\u0000' :: " a message that is not modelled".toList := by decide
    rw [e3, e4] at e2
    simp at e2
  · have b1 := stringBytes_size_le (stringToUtf16 ("arraycopy: " ++ w))
    have b2 := utf16_size_le ("arraycopy: " ++ w)
    rw [String.toList_append, List.length_append] at b2
    have l1 : "arraycopy: ".toList.length = 11 := by decide
    omega
theorem cpM_ok {sT dT : FieldType} (hs : sT = .byte ∨ sT = .short ∨ sT = .int) (hd : dT = .byte ∨ dT = .short ∨ dT = .int) : (cpM sT dT == notModelled) = false ∧ (stringBytes (stringToUtf16 (cpM sT dT))).size ≤ 4000 := by
  rcases hs with rfl | rfl | rfl <;> rcases hd with rfl | rfl | rfl <;> decide +kernel
section ACW
variable {Q : Option Value → Pre} {E : CtlPost} {e : Env} {d : Bool} {acts : List Action} {s : State}
theorem ac_null1 (a b n : Int32) (v : Value) (hE : E (.throwNew "java/lang/NullPointerException" none) acts s) : wp (Native.java_lang_System.arraycopy.sem #[.null, .int a, v, .int b, .int n]) Q E e d acts s := by
  rw [show Native.java_lang_System.arraycopy.sem #[.null, .int a, v, .int b, .int n] = (Jvm.mark "nat.java_lang_System.arraycopy/null" >>= fun _ => Jvm.throwNew "java/lang/NullPointerException") from rfl]
  simp only [wp_bind', W.mark, W.throwNew]
  exact hE
theorem ac_null2 (x : Addr) (a b n : Int32) (hE : E (.throwNew "java/lang/NullPointerException" none) acts s) : wp (Native.java_lang_System.arraycopy.sem #[.ref x, .int a, .null, .int b, .int n]) Q E e d acts s := by
  rw [show Native.java_lang_System.arraycopy.sem #[.ref x, .int a, .null, .int b, .int n] = (Jvm.mark "nat.java_lang_System.arraycopy/null" >>= fun _ => Jvm.throwNew "java/lang/NullPointerException") from rfl]
  simp only [wp_bind', W.mark, W.throwNew]
  exact hE
theorem ac_types {src dst : Addr} {a b n : Int32} {cs cd : Cell} {ks kd : Class} {sC dC : ClassId} {sT dT : FieldType}
    (hs : s.heap[src]? = some cs) (hd : s.heap[dst]? = some cd) (hso : ∀ k, cs.vm ≠ .statics k) (hdo : ∀ k, cd.vm ≠ .statics k) (hks : s.vm.classes[cs.cls]? = some ks) (hkd : s.vm.classes[cd.cls]? = some kd) (hsk : ks.kind = .array sC sT) (hdk : kd.kind = .array dC dT)
    (hty : ((refKind sT != refKind dT) || (!refKind sT && sT != dT)) = true) (hE : E (.throwNew "java/lang/ArrayStoreException" (some (cpM sT dT))) acts s) : wp (Native.java_lang_System.arraycopy.sem #[.ref src, .int a, .ref dst, .int b, .int n]) Q E e d acts s := by
  rw [Native.java_lang_System.arraycopy.sem_refs]
  unfold Native.java_lang_System.arraycopy.behind
  unfold refKind at hty
  simp only [wp_bind', W.classOf, W.theClass, hs, hd, hks, hkd, Option.some.injEq, exists_eq_left', hsk, hdk, hty, if_true, W.mark, W.throwNew]
  exact ⟨hso, hdo, hE⟩
theorem ac_bounds {src dst : Addr} {a b n : Int32} {cs cd : Cell} {ks kd : Class} {sC dC : ClassId} {sT dT : FieldType}
    (hs : s.heap[src]? = some cs) (hd : s.heap[dst]? = some cd) (hso : ∀ k, cs.vm ≠ .statics k) (hdo : ∀ k, cd.vm ≠ .statics k) (hks : s.vm.classes[cs.cls]? = some ks) (hkd : s.vm.classes[cd.cls]? = some kd) (hsk : ks.kind = .array sC sT) (hdk : kd.kind = .array dC dT)
    (hty : ((refKind sT != refKind dT) || (!refKind sT && sT != dT)) = false) (hbad : ¬ (¬ a < 0 ∧ ¬ b < 0 ∧ ¬ n < 0 ∧ ¬ a.toInt + n.toInt > cs.slots.size ∧ ¬ b.toInt + n.toInt > cd.slots.size))
    (hE : E (.throwNew "java/lang/ArrayIndexOutOfBoundsException" (some ("arraycopy: " ++ cpF sT dT cs.slots.size cd.slots.size a b n))) acts s) : wp (Native.java_lang_System.arraycopy.sem #[.ref src, .int a, .ref dst, .int b, .int n]) Q E e d acts s := by
  rw [Native.java_lang_System.arraycopy.sem_refs]
  unfold Native.java_lang_System.arraycopy.behind
  unfold refKind at hty
  simp only [wp_bind', W.classOf, W.theClass, hs, hd, hks, hkd, Option.some.injEq, exists_eq_left', hsk, hdk, hty, Bool.false_eq_true, if_false, W.sizeOf]
  refine ⟨hso, hdo, ?_⟩
  unfold cpF at hE
  by_cases c1 : a < 0
  · simp only [c1, if_true, wp_bind', W.mark, W.throwNew] at hE ⊢
    exact hE
  by_cases c2 : b < 0
  · simp only [c1, c2, if_true, if_false, wp_bind', W.mark, W.throwNew] at hE ⊢
    exact hE
  by_cases c3 : n < 0
  · simp only [c1, c2, c3, if_true, if_false, wp_bind', W.mark, W.throwNew] at hE ⊢
    exact hE
  by_cases c4 : a.toInt + n.toInt > cs.slots.size
  · simp only [c1, c2, c3, c4, if_true, if_false, wp_bind', W.mark, W.throwNew] at hE ⊢
    exact hE
  by_cases c5 : b.toInt + n.toInt > cd.slots.size
  · simp only [c1, c2, c3, c4, c5, if_true, if_false, wp_bind', W.mark, W.throwNew] at hE ⊢
    exact hE
  · exact absurd ⟨c1, c2, c3, c4, c5⟩ hbad
end ACW
