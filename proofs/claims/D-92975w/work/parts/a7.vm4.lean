/-! the text of a failing cast -/
set_option maxRecDepth 100000
/-- the text of a failing cast between two rows of primitives -/
theorem ofP_of {k : Class} {c : ClassId} {t : FieldType} (h : k.kind = .array c t) (hn : (withoutBrackets k.name).length = 1) : k.ofPrimitives = true := by
  unfold Class.ofPrimitives
  rw [h]
  simp only [hn, beq_self_eq_true]
theorem fc_spec {vm : Vm} {nm : String} {c : ClassId} {k : Class} (h : vm.findClass nm = some c) (hk : vm.classes[c]? = some k) : k.name = nm ∧ k.hidden = none ∧ k.loader = none := by
  unfold Vm.findClass at h
  obtain ⟨hlt, hp, -⟩ := Array.findIdx?_eq_some_iff_getElem.mp h
  have e : vm.classes[c] = k := by
    rw [Array.getElem?_eq_getElem hlt] at hk
    exact Option.some.inj hk
  rw [e] at hp
  simp only [Bool.and_eq_true, beq_iff_eq, Option.isNone_iff_eq_none] at hp
  exact ⟨hp.1.1.1, hp.1.1.2, hp.2⟩
def hmT (na nb md : String) : String := toString (dotted na) ++ toString " and " ++ toString (dotted nb) ++ toString " are in " ++ toString (md ++ " of loader " ++ "'bootstrap'")
def ccT (na nb hm : String) : String := toString "class " ++ toString (dotted na) ++ toString " cannot be cast to class " ++ toString (dotted nb) ++ toString " (" ++ toString hm ++ toString ")"
def idxT (i : Int32) (N : Nat) : String := toString "Index " ++ toString i ++ toString " out of bounds for length " ++ toString N
theorem homes_two {vm : Vm} {ka kb : Class} {na nb : String} (ha : ka.name = na ∧ ka.hidden = none ∧ ka.loader = none) (hb : kb.name = nb ∧ kb.hidden = none ∧ kb.loader = none) (pa : ka.ofPrimitives = true) (pb : kb.ofPrimitives = true) :
    vm.homes ka kb = hmT na nb ("module " ++ "java.base") ∨ vm.homes ka kb = hmT na nb "unnamed module" := by
  have ma : vm.moduleOf ka = vm.modules.find? (fun m => m.name == "java.base") := by unfold Vm.moduleOf; rw [if_pos pa]
  have mb : vm.moduleOf kb = vm.modules.find? (fun m => m.name == "java.base") := by unfold Vm.moduleOf; rw [if_pos pb]
  have sa : ka.shown = dotted na := by unfold Class.shown; rw [ha.2.1, ha.1]
  have sb : kb.shown = dotted nb := by unfold Class.shown; rw [hb.2.1, hb.1]
  have la : vm.loaderName ka.loader = "'bootstrap'" := by rw [ha.2.2]; rfl
  cases hf : vm.modules.find? (fun m => m.name == "java.base") with
  | none =>
    refine Or.inr ?_
    have hs : vm.sameModule ka kb = true := by unfold Vm.sameModule; rw [ma, mb, hf]; simp [ha.2.2, hb.2.2]
    unfold Vm.homes Vm.home
    rw [if_pos hs, sa, sb, la, ma, hf]
    rfl
  | some m =>
    refine Or.inl ?_
    have hs : vm.sameModule ka kb = true := by unfold Vm.sameModule; rw [ma, mb, hf]; simp
    have hm : m.name = "java.base" := by have := List.find?_some hf; simpa using this
    unfold Vm.homes Vm.home
    rw [if_pos hs, sa, sb, la, ma, hf]
    dsimp only
    rw [hm]
    rfl
def castT (na nb : String) : List String := [ccT na nb (hmT na nb ("module " ++ "java.base")), ccT na nb (hmT na nb "unnamed module")]
theorem castT_of {vm : Vm} {ka kb : Class} {na nb : String} (ha : ka.name = na ∧ ka.hidden = none ∧ ka.loader = none) (hb : kb.name = nb ∧ kb.hidden = none ∧ kb.loader = none) (pa : ka.ofPrimitives = true) (pb : kb.ofPrimitives = true) : Op.checkcast.message vm ka kb ∈ castT na nb := by
  have sa : ka.shown = dotted na := by unfold Class.shown; rw [ha.2.1, ha.1]
  have sb : kb.shown = dotted nb := by unfold Class.shown; rw [hb.2.1, hb.1]
  have e : ∀ hm : String, vm.homes ka kb = hm → Op.checkcast.message vm ka kb = ccT na nb hm := by
    intro hm h
    unfold Op.checkcast.message
    rw [sa, sb, h]
    rfl
  rcases homes_two ha hb pa pb (vm := vm) with h | h
  · rw [e _ h]; exact List.mem_cons_self
  · rw [e _ h]; exact List.mem_cons_of_mem _ List.mem_cons_self
abbrev prA : List String := ["[I", "[B", "[S"]
theorem castT_ok : ∀ na ∈ prA, ∀ nb ∈ prA, ∀ t ∈ castT na nb, (t == notModelled) = false ∧ (stringBytes (stringToUtf16 t)).size ≤ 4000 := by decide +kernel
theorem prA_len : ∀ x ∈ prA, (withoutBrackets x).length = 1 := by decide +kernel
