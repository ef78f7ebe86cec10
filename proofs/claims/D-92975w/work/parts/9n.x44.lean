-- Obj fields dict_keys(['cls', 'fun', 'sname', 'refs', 'extra', 'ups'])
/-! the component: a typed sign -/
set_option maxRecDepth 100000
theorem and255 (y : Int64) : ∃ m, m < 256 ∧ y &&& 255 = lN m := by
  refine ⟨(y.toBitVec &&& 255#64).toNat, ?_, ?_⟩
  · rw [BitVec.toNat_and]
    exact Nat.lt_of_le_of_lt Nat.and_le_right (by decide)
  · apply Int64.toBitVec_inj.mp
    rw [Int64.toBitVec_and]
    show y.toBitVec &&& 255#64 = BitVec.ofNat 64 _
    rw [BitVec.ofNat_toNat]
    rfl
theorem ch_in {w : Int64} {x : Int32} : inI (chL w x).toInt32 32 126 = inL (chL w x) 32 126 := by
  obtain ⟨m, hm, e⟩ := and255 (w >>> (((8 : Int32) * x).toInt64 &&& 63))
  unfold chL
  rw [e, lN_i, ← inL_I, nI_l (by omega)]
  rfl
