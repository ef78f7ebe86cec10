/-! overlays of the abstract heap, booleans, numbers of arguments, the objects' cells -/
set_option maxRecDepth 100000
def hov (h : AH) : List (Nat × AC) → AH
  | [], k => h k
  | (a, c) :: l, k => cond (Nat.beq k a) (some c) (hov h l k)
def aset : List (Nat × AC) → Nat → AC → List (Nat × AC)
  | [], a, c => [(a, c)]
  | (b, d) :: l, a, c => cond (Nat.beq a b) ((a, c) :: l) ((b, d) :: aset l a c)
theorem beq_ff {k a : Nat} (hk : ¬ k = a) : Nat.beq k a = false := by
  cases hb : Nat.beq k a with
  | false => rfl
  | true => exact absurd (Nat.eq_of_beq_eq_true hb) hk
theorem hov_aset (h : AH) (a : Nat) (c : AC) : ∀ (l : List (Nat × AC)) (k : Nat), hov h (aset l a c) k = if k = a then some c else hov h l k
  | [], k => by
    by_cases hk : k = a
    · subst hk; simp [aset, hov]
    · have : Nat.beq k a = false := beq_ff hk
      simp [aset, hov, hk, this]
  | (b, d) :: l, k => by
    unfold aset
    cases hab : Nat.beq a b with
    | true =>
      have e : a = b := by simpa using hab
      subst e
      by_cases hk : k = a
      · subst hk; simp [hov]
      · have : Nat.beq k a = false := beq_ff hk
        simp [hov, hk, this]
    | false =>
      have ne : ¬ a = b := Nat.ne_of_beq_eq_false hab
      show cond (Nat.beq k b) (some d) (hov h (aset l a c) k) = _
      rw [hov_aset h a c l k]
      cases hkb : Nat.beq k b with
      | true =>
        have e : k = b := by simpa using hkb
        subst e
        have : ¬ k = a := fun q => ne q.symm
        simp [hov, this]
      | false => simp [hov, hkb]
theorem hov_up {h : AH} {l l' : List (Nat × AC)} {a : Nat} {c : AC} (e : aset l a c = l') : va_up (hov h l) a (some c) = hov h l' := by
  subst e
  funext k
  rw [hov_aset]
  rfl
theorem hov_up0 {h : AH} {a : Nat} {c : AC} : va_up h a (some c) = hov h [(a, c)] := hov_up (h := h) (l := []) rfl
theorem hov_hov (h : AH) (l : List (Nat × AC)) {a : Nat} {c : AC} {l' : List (Nat × AC)} (e : aset l a c = l') : hov (hov h l) [(a, c)] = hov h l' := by
  rw [← hov_up e, hov_up0]
theorem EW.heap {l : Launch} {G : GW} {y : MethodName} {cc : ByteArray} {nL : Nat} {ret : Option FieldType} {fr mc ms : Nat} {Q : Option Value → AH → Nat → Prop} {k sl : Nat} {h h' : AH} {n pc : Nat} {L : List (Option Value)} {st : List Value} (e : h = h') (kk : EW l G y cc nL ret fr mc ms Q k sl h' n pc L st) : EW l G y cc nL ret fr mc ms Q k sl h n pc L st := e ▸ kk
def b2i (b : Bool) : Int32 := cond b 1 0
theorem b2i_nar (b : Bool) : narrow .boolean (.int (b2i b)) = .int (b2i b) := by cases b <;> decide
theorem b2i_fit (b : Bool) : fits .boolean (.int (b2i b)) = true := by cases b <;> decide
theorem b2i_0 {b : Bool} : b2i b = 0 ↔ b = false := by cases b <;> decide
theorem b2i_1 {b : Bool} : ¬ b2i b = 0 ↔ b = true := by cases b <;> decide
def inI (v lo hi : Int32) : Bool := !(decide (v < lo)) && !(decide (hi < v))
def inL (v lo hi : Int64) : Bool := !(decide (v < lo)) && !(decide (hi < v))
theorem inL_I (a b c : Int32) : inL a.toInt64 b.toInt64 c.toInt64 = inI a b c := by
  unfold inL inI
  simp only [Int64.lt_iff_toInt_lt, Int32.lt_iff_toInt_lt, Int32.toInt_toInt64]
theorem inI_iff {v lo hi : Int32} : inI v lo hi = true ↔ lo ≤ v ∧ v ≤ hi := by
  unfold inI
  simp only [Bool.and_eq_true, Bool.not_eq_true', decide_eq_false_iff_not, Int32.not_lt]
theorem lw_F {own : String} {idx : Nat} {C : String} {x y : MethodName} {b : ByteArray} {L : Nat} {r : Option FieldType} (h1 : Cond.methodLink own idx x ∈ lw_all) (h2 : Cond.selects C x y ∈ lw_all) (h3 : Cond.instanceMethod y ∈ lw_all) (h4 : Cond.initialized y.cls ∈ lw_all) (h5 : Cond.code y b L r ∈ lw_all) : GoodIn lw_all (va_wsF own idx C x y (ws_ y b L r)) := by
  refine lw_app ?_ (lw_meth h5)
  intro w hw
  simp only [List.mem_cons, List.not_mem_nil, or_false] at hw
  rcases hw with e | e | e | e
  · rw [e]; exact h1
  · rw [e]; exact h2
  · rw [e]; exact h3
  · rw [e]; exact h4
theorem lw_U {own : String} {idx : Nat} {C owner : String} {x y : MethodName} {b : ByteArray} {L : Nat} {r : Option FieldType} (h1 : Cond.methodLink own idx x ∈ lw_all) (h2 : Cond.sameMethod x.cls owner x.name x.desc ∈ lw_all) (h3 : Cond.selects C x y ∈ lw_all) (h4 : Cond.instanceMethod y ∈ lw_all) (h5 : Cond.initialized y.cls ∈ lw_all) (h6 : Cond.code y b L r ∈ lw_all) : GoodIn lw_all (va_wsU own idx C owner x y (ws_ y b L r)) := by
  refine lw_app ?_ (lw_meth h6)
  intro w hw
  simp only [List.mem_cons, List.not_mem_nil, or_false] at hw
  rcases hw with e | e | e | e | e
  · rw [e]; exact h1
  · rw [e]; exact h2
  · rw [e]; exact h3
  · rw [e]; exact h4
  · rw [e]; exact h5
theorem naJ0_init : nArg yJ0_init 0 := ⟨by decide +kernel, by decide +kernel, by decide +kernel⟩
theorem naJ1_init : nArg yJ1_init 0 := ⟨by decide +kernel, by decide +kernel, by decide +kernel⟩
theorem naJ2_init : nArg yJ2_init 0 := ⟨by decide +kernel, by decide +kernel, by decide +kernel⟩
theorem naJ2_size : nArg yJ2_size 0 := ⟨by decide +kernel, by decide +kernel, by decide +kernel⟩
theorem naJ2_add : nArg yJ2_add 1 := ⟨by decide +kernel, by decide +kernel, by decide +kernel⟩
theorem naJ2_add_2 : nArg yJ2_add_2 3 := ⟨by decide +kernel, by decide +kernel, by decide +kernel⟩
theorem naJ2_grow : nArg yJ2_grow 0 := ⟨by decide +kernel, by decide +kernel, by decide +kernel⟩
theorem naJ2_grow_2 : nArg yJ2_grow_2 1 := ⟨by decide +kernel, by decide +kernel, by decide +kernel⟩
theorem naJ2_get : nArg yJ2_get 1 := ⟨by decide +kernel, by decide +kernel, by decide +kernel⟩
theorem naJ2_elementData : nArg yJ2_elementData 1 := ⟨by decide +kernel, by decide +kernel, by decide +kernel⟩
theorem naJ2_clear : nArg yJ2_clear 0 := ⟨by decide +kernel, by decide +kernel, by decide +kernel⟩
theorem naJ2_addAll : nArg yJ2_addAll 1 := ⟨by decide +kernel, by decide +kernel, by decide +kernel⟩
theorem naJ2_toArray : nArg yJ2_toArray 0 := ⟨by decide +kernel, by decide +kernel, by decide +kernel⟩
theorem naJ3_init : nArg yJ3_init 0 := ⟨by decide +kernel, by decide +kernel, by decide +kernel⟩
theorem naJ3_init_2 : nArg yJ3_init_2 4 := ⟨by decide +kernel, by decide +kernel, by decide +kernel⟩
theorem naJ3_init_3 : nArg yJ3_init_3 1 := ⟨by decide +kernel, by decide +kernel, by decide +kernel⟩
theorem naJ4_init : nArg yJ4_init 4 := ⟨by decide +kernel, by decide +kernel, by decide +kernel⟩
theorem naJ4_init_2 : nArg yJ4_init_2 1 := ⟨by decide +kernel, by decide +kernel, by decide +kernel⟩
theorem naJ4_init_3 : nArg yJ4_init_3 0 := ⟨by decide +kernel, by decide +kernel, by decide +kernel⟩
theorem naJ5_min : nArg yJ5_min 2 := ⟨by decide +kernel, by decide +kernel, by decide +kernel⟩
theorem naJ5_abs : nArg yJ5_abs 1 := ⟨by decide +kernel, by decide +kernel, by decide +kernel⟩
theorem naJ5_max : nArg yJ5_max 2 := ⟨by decide +kernel, by decide +kernel, by decide +kernel⟩
theorem naJ5_abs_2 : nArg yJ5_abs_2 1 := ⟨by decide +kernel, by decide +kernel, by decide +kernel⟩
theorem naJ6_newLength : nArg yJ6_newLength 3 := ⟨by decide +kernel, by decide +kernel, by decide +kernel⟩
theorem naJ6_hugeLength : nArg yJ6_hugeLength 2 := ⟨by decide +kernel, by decide +kernel, by decide +kernel⟩
theorem naJ7_copyOf : nArg yJ7_copyOf 2 := ⟨by decide +kernel, by decide +kernel, by decide +kernel⟩
theorem naJ7_copyOf_2 : nArg yJ7_copyOf_2 3 := ⟨by decide +kernel, by decide +kernel, by decide +kernel⟩
theorem naJ8_checkIndex : nArg yJ8_checkIndex 2 := ⟨by decide +kernel, by decide +kernel, by decide +kernel⟩
theorem naJ9_checkIndex : nArg yJ9_checkIndex 3 := ⟨by decide +kernel, by decide +kernel, by decide +kernel⟩
theorem naX0_init : nArg yX0_init 0 := ⟨by decide +kernel, by decide +kernel, by decide +kernel⟩
theorem naX0_set : nArg yX0_set 2 := ⟨by decide +kernel, by decide +kernel, by decide +kernel⟩
theorem naX0_isIn : nArg yX0_isIn 3 := ⟨by decide +kernel, by decide +kernel, by decide +kernel⟩
theorem naX0_isCell : nArg yX0_isCell 1 := ⟨by decide +kernel, by decide +kernel, by decide +kernel⟩
theorem naX0_far : nArg yX0_far 1 := ⟨by decide +kernel, by decide +kernel, by decide +kernel⟩
theorem naX0_ring : nArg yX0_ring 3 := ⟨by decide +kernel, by decide +kernel, by decide +kernel⟩
theorem naX0_type : nArg yX0_type 2 := ⟨by decide +kernel, by decide +kernel, by decide +kernel⟩
theorem naX0_rings : nArg yX0_rings 0 := ⟨by decide +kernel, by decide +kernel, by decide +kernel⟩
theorem naX0_readRings : nArg yX0_readRings 0 := ⟨by decide +kernel, by decide +kernel, by decide +kernel⟩
theorem naX0_readDigit : nArg yX0_readDigit 2 := ⟨by decide +kernel, by decide +kernel, by decide +kernel⟩
theorem naX0_nextByte : nArg yX0_nextByte 0 := ⟨by decide +kernel, by decide +kernel, by decide +kernel⟩
theorem naX0_wrong : nArg yX0_wrong 0 := ⟨by decide +kernel, by decide +kernel, by decide +kernel⟩
theorem naX0_takes : nArg yX0_takes 1 := ⟨by decide +kernel, by decide +kernel, by decide +kernel⟩
theorem naX0_readFar : nArg yX0_readFar 0 := ⟨by decide +kernel, by decide +kernel, by decide +kernel⟩
theorem naX0_sea : nArg yX0_sea 2 := ⟨by decide +kernel, by decide +kernel, by decide +kernel⟩
theorem naX0_readSea : nArg yX0_readSea 0 := ⟨by decide +kernel, by decide +kernel, by decide +kernel⟩
theorem naX0_ways : nArg yX0_ways 0 := ⟨by decide +kernel, by decide +kernel, by decide +kernel⟩
theorem naX0_counted : nArg yX0_counted 0 := ⟨by decide +kernel, by decide +kernel, by decide +kernel⟩
theorem naX0_goAll : nArg yX0_goAll 3 := ⟨by decide +kernel, by decide +kernel, by decide +kernel⟩
theorem naX0_goOn : nArg yX0_goOn 3 := ⟨by decide +kernel, by decide +kernel, by decide +kernel⟩
theorem naX0_beyond : nArg yX0_beyond 3 := ⟨by decide +kernel, by decide +kernel, by decide +kernel⟩
theorem naX0_digit : nArg yX0_digit 2 := ⟨by decide +kernel, by decide +kernel, by decide +kernel⟩
theorem naX0_ringOf : nArg yX0_ringOf 1 := ⟨by decide +kernel, by decide +kernel, by decide +kernel⟩
theorem naX0_hasRing : nArg yX0_hasRing 1 := ⟨by decide +kernel, by decide +kernel, by decide +kernel⟩
theorem naX0_tell : nArg yX0_tell 2 := ⟨by decide +kernel, by decide +kernel, by decide +kernel⟩
theorem naX0_choose : nArg yX0_choose 3 := ⟨by decide +kernel, by decide +kernel, by decide +kernel⟩
theorem naX0_slowAnd : nArg yX0_slowAnd 3 := ⟨by decide +kernel, by decide +kernel, by decide +kernel⟩
theorem naX0_weight : nArg yX0_weight 0 := ⟨by decide +kernel, by decide +kernel, by decide +kernel⟩
theorem naX0_way : nArg yX0_way 2 := ⟨by decide +kernel, by decide +kernel, by decide +kernel⟩
theorem naX0_sought : nArg yX0_sought 1 := ⟨by decide +kernel, by decide +kernel, by decide +kernel⟩
theorem naX0_may : nArg yX0_may 2 := ⟨by decide +kernel, by decide +kernel, by decide +kernel⟩
theorem naX0_cell : nArg yX0_cell 4 := ⟨by decide +kernel, by decide +kernel, by decide +kernel⟩
theorem naX0_depth : nArg yX0_depth 2 := ⟨by decide +kernel, by decide +kernel, by decide +kernel⟩
theorem naX0_piece : nArg yX0_piece 5 := ⟨by decide +kernel, by decide +kernel, by decide +kernel⟩
theorem naX0_drift : nArg yX0_drift 3 := ⟨by decide +kernel, by decide +kernel, by decide +kernel⟩
theorem naX0_drifted : nArg yX0_drifted 3 := ⟨by decide +kernel, by decide +kernel, by decide +kernel⟩
theorem naX0_fits : nArg yX0_fits 2 := ⟨by decide +kernel, by decide +kernel, by decide +kernel⟩
theorem naX0_areBeside : nArg yX0_areBeside 2 := ⟨by decide +kernel, by decide +kernel, by decide +kernel⟩
theorem naX0_drag : nArg yX0_drag 2 := ⟨by decide +kernel, by decide +kernel, by decide +kernel⟩
theorem naX0_clear : nArg yX0_clear 0 := ⟨by decide +kernel, by decide +kernel, by decide +kernel⟩
theorem naX0_odds : nArg yX0_odds 2 := ⟨by decide +kernel, by decide +kernel, by decide +kernel⟩
theorem naX0_findOdds : nArg yX0_findOdds 2 := ⟨by decide +kernel, by decide +kernel, by decide +kernel⟩
theorem naX0_part : nArg yX0_part 3 := ⟨by decide +kernel, by decide +kernel, by decide +kernel⟩
theorem naX0_where : nArg yX0_where 1 := ⟨by decide +kernel, by decide +kernel, by decide +kernel⟩
theorem naX0_count : nArg yX0_count 1 := ⟨by decide +kernel, by decide +kernel, by decide +kernel⟩
theorem naX0_moves : nArg yX0_moves 1 := ⟨by decide +kernel, by decide +kernel, by decide +kernel⟩
theorem naX0_isAssumption : nArg yX0_isAssumption 1 := ⟨by decide +kernel, by decide +kernel, by decide +kernel⟩
theorem naX0_movesBy : nArg yX0_movesBy 2 := ⟨by decide +kernel, by decide +kernel, by decide +kernel⟩
theorem naX0_most : nArg yX0_most 0 := ⟨by decide +kernel, by decide +kernel, by decide +kernel⟩
theorem naX0_next : nArg yX0_next 0 := ⟨by decide +kernel, by decide +kernel, by decide +kernel⟩
theorem naX0_isDragged : nArg yX0_isDragged 1 := ⟨by decide +kernel, by decide +kernel, by decide +kernel⟩
theorem naX0_should : nArg yX0_should 4 := ⟨by decide +kernel, by decide +kernel, by decide +kernel⟩
theorem naX0_held : nArg yX0_held 3 := ⟨by decide +kernel, by decide +kernel, by decide +kernel⟩
theorem naX0_isSheet : nArg yX0_isSheet 1 := ⟨by decide +kernel, by decide +kernel, by decide +kernel⟩
theorem naX0_isLane : nArg yX0_isLane 1 := ⟨by decide +kernel, by decide +kernel, by decide +kernel⟩
theorem naX0_lacks : nArg yX0_lacks 3 := ⟨by decide +kernel, by decide +kernel, by decide +kernel⟩
theorem naX0_isKnown : nArg yX0_isKnown 2 := ⟨by decide +kernel, by decide +kernel, by decide +kernel⟩
theorem naX0_heldBy : nArg yX0_heldBy 2 := ⟨by decide +kernel, by decide +kernel, by decide +kernel⟩
theorem naX0_film : nArg yX0_film 4 := ⟨by decide +kernel, by decide +kernel, by decide +kernel⟩
theorem naX0_image : nArg yX0_image 0 := ⟨by decide +kernel, by decide +kernel, by decide +kernel⟩
theorem naX0_restore : nArg yX0_restore 0 := ⟨by decide +kernel, by decide +kernel, by decide +kernel⟩
theorem naX0_sheet : nArg yX0_sheet 3 := ⟨by decide +kernel, by decide +kernel, by decide +kernel⟩
theorem naX0_drop : nArg yX0_drop 1 := ⟨by decide +kernel, by decide +kernel, by decide +kernel⟩
theorem naX0_item : nArg yX0_item 4 := ⟨by decide +kernel, by decide +kernel, by decide +kernel⟩
theorem naX0_copy : nArg yX0_copy 5 := ⟨by decide +kernel, by decide +kernel, by decide +kernel⟩
theorem naX1_init : nArg yX1_init 0 := ⟨by decide +kernel, by decide +kernel, by decide +kernel⟩
theorem naX1_far : nArg yX1_far 1 := ⟨by decide +kernel, by decide +kernel, by decide +kernel⟩
theorem naX1_hours : nArg yX1_hours 0 := ⟨by decide +kernel, by decide +kernel, by decide +kernel⟩
theorem naX1_drift : nArg yX1_drift 3 := ⟨by decide +kernel, by decide +kernel, by decide +kernel⟩
theorem naX1_takeFrom : nArg yX1_takeFrom 1 := ⟨by decide +kernel, by decide +kernel, by decide +kernel⟩
theorem naX10_init : nArg yX10_init 2 := ⟨by decide +kernel, by decide +kernel, by decide +kernel⟩
theorem naX10_misses : nArg yX10_misses 1 := ⟨by decide +kernel, by decide +kernel, by decide +kernel⟩
theorem naX11_way : nArg yX11_way 2 := ⟨by decide +kernel, by decide +kernel, by decide +kernel⟩
theorem naX11_init : nArg yX11_init 0 := ⟨by decide +kernel, by decide +kernel, by decide +kernel⟩
theorem naX12_way : nArg yX12_way 2 := ⟨by decide +kernel, by decide +kernel, by decide +kernel⟩
theorem naX12_init : nArg yX12_init 0 := ⟨by decide +kernel, by decide +kernel, by decide +kernel⟩
theorem naX2_init : nArg yX2_init 0 := ⟨by decide +kernel, by decide +kernel, by decide +kernel⟩
theorem naX3_init : nArg yX3_init 0 := ⟨by decide +kernel, by decide +kernel, by decide +kernel⟩
theorem naX3_lane : nArg yX3_lane 0 := ⟨by decide +kernel, by decide +kernel, by decide +kernel⟩
theorem naX3_size : nArg yX3_size 0 := ⟨by decide +kernel, by decide +kernel, by decide +kernel⟩
theorem naX3_get : nArg yX3_get 1 := ⟨by decide +kernel, by decide +kernel, by decide +kernel⟩
theorem naX3_set : nArg yX3_set 2 := ⟨by decide +kernel, by decide +kernel, by decide +kernel⟩
theorem naX4_init : nArg yX4_init 0 := ⟨by decide +kernel, by decide +kernel, by decide +kernel⟩
theorem naX4_set : nArg yX4_set 2 := ⟨by decide +kernel, by decide +kernel, by decide +kernel⟩
theorem naX4_in : nArg yX4_in 3 := ⟨by decide +kernel, by decide +kernel, by decide +kernel⟩
theorem naX4_far : nArg yX4_far 1 := ⟨by decide +kernel, by decide +kernel, by decide +kernel⟩
theorem naX4_isCell : nArg yX4_isCell 1 := ⟨by decide +kernel, by decide +kernel, by decide +kernel⟩
theorem naX4_away : nArg yX4_away 1 := ⟨by decide +kernel, by decide +kernel, by decide +kernel⟩
theorem naX4_ring : nArg yX4_ring 3 := ⟨by decide +kernel, by decide +kernel, by decide +kernel⟩
theorem naX4_type : nArg yX4_type 2 := ⟨by decide +kernel, by decide +kernel, by decide +kernel⟩
theorem naX4_rings : nArg yX4_rings 0 := ⟨by decide +kernel, by decide +kernel, by decide +kernel⟩
theorem naX4_digit : nArg yX4_digit 2 := ⟨by decide +kernel, by decide +kernel, by decide +kernel⟩
theorem naX4_here : nArg yX4_here 0 := ⟨by decide +kernel, by decide +kernel, by decide +kernel⟩
theorem naX4_number : nArg yX4_number 0 := ⟨by decide +kernel, by decide +kernel, by decide +kernel⟩
theorem naX4_sea : nArg yX4_sea 2 := ⟨by decide +kernel, by decide +kernel, by decide +kernel⟩
theorem naX4_ways : nArg yX4_ways 0 := ⟨by decide +kernel, by decide +kernel, by decide +kernel⟩
theorem naX4_asTold : nArg yX4_asTold 0 := ⟨by decide +kernel, by decide +kernel, by decide +kernel⟩
theorem naX4_begins : nArg yX4_begins 0 := ⟨by decide +kernel, by decide +kernel, by decide +kernel⟩
theorem naX4_goesOn : nArg yX4_goesOn 0 := ⟨by decide +kernel, by decide +kernel, by decide +kernel⟩
theorem naX4_goes : nArg yX4_goes 0 := ⟨by decide +kernel, by decide +kernel, by decide +kernel⟩
theorem naX4_gone : nArg yX4_gone 3 := ⟨by decide +kernel, by decide +kernel, by decide +kernel⟩
theorem naX4_rowStep : nArg yX4_rowStep 1 := ⟨by decide +kernel, by decide +kernel, by decide +kernel⟩
theorem naX4_columnStep : nArg yX4_columnStep 1 := ⟨by decide +kernel, by decide +kernel, by decide +kernel⟩
theorem naX4_ringed : nArg yX4_ringed 1 := ⟨by decide +kernel, by decide +kernel, by decide +kernel⟩
theorem naX4_weight : nArg yX4_weight 0 := ⟨by decide +kernel, by decide +kernel, by decide +kernel⟩
theorem naX4_heavy : nArg yX4_heavy 0 := ⟨by decide +kernel, by decide +kernel, by decide +kernel⟩
theorem naX4_way : nArg yX4_way 2 := ⟨by decide +kernel, by decide +kernel, by decide +kernel⟩
theorem naX4_finds : nArg yX4_finds 1 := ⟨by decide +kernel, by decide +kernel, by decide +kernel⟩
theorem naX4_may : nArg yX4_may 2 := ⟨by decide +kernel, by decide +kernel, by decide +kernel⟩
theorem naX4_cell : nArg yX4_cell 4 := ⟨by decide +kernel, by decide +kernel, by decide +kernel⟩
theorem naX4_depth : nArg yX4_depth 2 := ⟨by decide +kernel, by decide +kernel, by decide +kernel⟩
theorem naX4_piece : nArg yX4_piece 5 := ⟨by decide +kernel, by decide +kernel, by decide +kernel⟩
theorem naX4_drift : nArg yX4_drift 3 := ⟨by decide +kernel, by decide +kernel, by decide +kernel⟩
theorem naX4_driftTo : nArg yX4_driftTo 3 := ⟨by decide +kernel, by decide +kernel, by decide +kernel⟩
theorem naX4_drifted : nArg yX4_drifted 3 := ⟨by decide +kernel, by decide +kernel, by decide +kernel⟩
theorem naX4_fits : nArg yX4_fits 2 := ⟨by decide +kernel, by decide +kernel, by decide +kernel⟩
theorem naX4_fit : nArg yX4_fit 2 := ⟨by decide +kernel, by decide +kernel, by decide +kernel⟩
theorem naX4_drag : nArg yX4_drag 2 := ⟨by decide +kernel, by decide +kernel, by decide +kernel⟩
theorem naX4_clear : nArg yX4_clear 0 := ⟨by decide +kernel, by decide +kernel, by decide +kernel⟩
theorem naX4_odds : nArg yX4_odds 2 := ⟨by decide +kernel, by decide +kernel, by decide +kernel⟩
theorem naX4_endsAsTold : nArg yX4_endsAsTold 0 := ⟨by decide +kernel, by decide +kernel, by decide +kernel⟩
theorem naX4_ends : nArg yX4_ends 0 := ⟨by decide +kernel, by decide +kernel, by decide +kernel⟩
theorem naX4_lowest : nArg yX4_lowest 3 := ⟨by decide +kernel, by decide +kernel, by decide +kernel⟩
theorem naX4_where : nArg yX4_where 1 := ⟨by decide +kernel, by decide +kernel, by decide +kernel⟩
theorem naX4_count : nArg yX4_count 1 := ⟨by decide +kernel, by decide +kernel, by decide +kernel⟩
theorem naX4_moves : nArg yX4_moves 1 := ⟨by decide +kernel, by decide +kernel, by decide +kernel⟩
theorem naX4_isAssumption : nArg yX4_isAssumption 1 := ⟨by decide +kernel, by decide +kernel, by decide +kernel⟩
theorem naX4_moved : nArg yX4_moved 1 := ⟨by decide +kernel, by decide +kernel, by decide +kernel⟩
theorem naX4_thousandths : nArg yX4_thousandths 1 := ⟨by decide +kernel, by decide +kernel, by decide +kernel⟩
theorem naX4_most : nArg yX4_most 0 := ⟨by decide +kernel, by decide +kernel, by decide +kernel⟩
theorem naX4_next : nArg yX4_next 0 := ⟨by decide +kernel, by decide +kernel, by decide +kernel⟩
theorem naX4_should : nArg yX4_should 4 := ⟨by decide +kernel, by decide +kernel, by decide +kernel⟩
theorem naX4_held : nArg yX4_held 3 := ⟨by decide +kernel, by decide +kernel, by decide +kernel⟩
theorem naX4_isSheet : nArg yX4_isSheet 1 := ⟨by decide +kernel, by decide +kernel, by decide +kernel⟩
theorem naX4_isLane : nArg yX4_isLane 1 := ⟨by decide +kernel, by decide +kernel, by decide +kernel⟩
theorem naX4_refuses : nArg yX4_refuses 4 := ⟨by decide +kernel, by decide +kernel, by decide +kernel⟩
theorem naX4_isKnown : nArg yX4_isKnown 1 := ⟨by decide +kernel, by decide +kernel, by decide +kernel⟩
theorem naX4_image : nArg yX4_image 0 := ⟨by decide +kernel, by decide +kernel, by decide +kernel⟩
theorem naX4_saves : nArg yX4_saves 3 := ⟨by decide +kernel, by decide +kernel, by decide +kernel⟩
theorem naX4_restore : nArg yX4_restore 0 := ⟨by decide +kernel, by decide +kernel, by decide +kernel⟩
theorem naX4_gives : nArg yX4_gives 3 := ⟨by decide +kernel, by decide +kernel, by decide +kernel⟩
theorem naX4_sheet : nArg yX4_sheet 3 := ⟨by decide +kernel, by decide +kernel, by decide +kernel⟩
theorem naX4_drop : nArg yX4_drop 1 := ⟨by decide +kernel, by decide +kernel, by decide +kernel⟩
theorem naX4_item : nArg yX4_item 4 := ⟨by decide +kernel, by decide +kernel, by decide +kernel⟩
theorem naX4_film : nArg yX4_film 4 := ⟨by decide +kernel, by decide +kernel, by decide +kernel⟩
theorem naX4_copy : nArg yX4_copy 5 := ⟨by decide +kernel, by decide +kernel, by decide +kernel⟩
theorem naX5_init : nArg yX5_init 0 := ⟨by decide +kernel, by decide +kernel, by decide +kernel⟩
theorem naX6_init : nArg yX6_init 0 := ⟨by decide +kernel, by decide +kernel, by decide +kernel⟩
theorem naX6_way : nArg yX6_way 2 := ⟨by decide +kernel, by decide +kernel, by decide +kernel⟩
theorem naX7_way : nArg yX7_way 2 := ⟨by decide +kernel, by decide +kernel, by decide +kernel⟩
theorem naX7_init : nArg yX7_init 0 := ⟨by decide +kernel, by decide +kernel, by decide +kernel⟩
theorem naX8_way : nArg yX8_way 2 := ⟨by decide +kernel, by decide +kernel, by decide +kernel⟩
theorem naX8_init : nArg yX8_init 0 := ⟨by decide +kernel, by decide +kernel, by decide +kernel⟩
theorem naX9_init : nArg yX9_init 5 := ⟨by decide +kernel, by decide +kernel, by decide +kernel⟩
theorem naX9_fits : nArg yX9_fits 2 := ⟨by decide +kernel, by decide +kernel, by decide +kernel⟩
theorem naI_J2_size : nArg ⟨"java/util/List", "size", "()I"⟩ 0 := ⟨by decide +kernel, by decide +kernel, by decide +kernel⟩
theorem naI_J2_add : nArg ⟨"java/util/List", "add", "(Ljava/lang/Object;)Z"⟩ 1 := ⟨by decide +kernel, by decide +kernel, by decide +kernel⟩
theorem naI_J2_get : nArg ⟨"java/util/List", "get", "(I)Ljava/lang/Object;"⟩ 1 := ⟨by decide +kernel, by decide +kernel, by decide +kernel⟩
theorem naI_J2_clear : nArg ⟨"java/util/List", "clear", "()V"⟩ 0 := ⟨by decide +kernel, by decide +kernel, by decide +kernel⟩
theorem naI_J2_addAll : nArg ⟨"java/util/List", "addAll", "(Ljava/util/Collection;)Z"⟩ 1 := ⟨by decide +kernel, by decide +kernel, by decide +kernel⟩
theorem naI_J2_toArray : nArg ⟨"java/util/Collection", "toArray", "()[Ljava/lang/Object;"⟩ 0 := ⟨by decide +kernel, by decide +kernel, by decide +kernel⟩
/-- the system's object (cell 1), a Told (its first array's number b), the reference's object (cell 33) -/
def XOf (s : Nat → Int32) : List Value := [.ref 2, .ref 11, .ref 12, .int (s 3), .int (s 4), .ref 13, .ref 14, .ref 15, .ref 16, .int (s 9), .int (s 10), .int (s 11), .int (s 12), .int (s 13), .int (s 14), .int (s 15), .ref 17, .ref 18, .int (s 18), .ref 19, .ref 28]
abbrev XO (s : Nat → Int32) : AC := OB 0 (XOf s)
abbrev TO0 : AC := OB 1 [.ref 3, .ref 4, .ref 5, .ref 6, .ref 7, .ref 8, .ref 9, .ref 10]
abbrev TO1 : AC := OB 1 [.ref 20, .ref 21, .ref 22, .ref 23, .ref 24, .ref 25, .ref 26, .ref 27]
def MOf (s : Nat → Int32) (al : Int64) : List Value := [.ref 34, .ref 35, .ref 36, .ref 37, .ref 38, .ref 39, .ref 40, .int (s 7), .int (s 8), .int (s 9), .ref 41, .ref 42, .ref 43, .ref 44, .ref 45, .ref 46, .ref 47, .ref 48, .ref 49, .ref 50, .ref 51, .int (s 21), .int (s 22), .int (s 23), .int (s 24), .int (s 25), .ref 52, .int (s 27), .ref 53, .ref 54, .ref 55, .long al, .int (s 32), .int (s 33), .ref 56, .ref 57, .ref 58, .int (s 37), .ref 59, .ref 60, .ref 61, .ref 62]
abbrev MO (s : Nat → Int32) (al : Int64) : AC := OB 4 (MOf s al)
