-- ===== PART A: goes FIRST, ahead of the names: the tables' words, and 'selects' of the private methods out of them =====
/-- a private method of a class that the tables say can be made, by its rows of tables_1 -/
def lw_okq (q : MethodName × Nat) : Prop := (q.1.cls ≠ "java/lang/invoke/MethodHandle" ∧ q.1.cls ≠ "java/lang/invoke/VarHandle") ∧ Cond.instantiable q.1.cls q.2 ∈ tables_1 ∧ Cond.privateMethod q.1 ∈ tables_1 ∧ Cond.instanceMethod q.1 ∈ tables_1
set_option maxRecDepth 100000
theorem lw_t1 {w : Cond} (h : w ∈ tables_1_1) : w ∈ tables_1 := List.mem_append_left _ h
theorem lw_t2 {w : Cond} (h : w ∈ tables_1_2) : w ∈ tables_1 := List.mem_append_right _ (List.mem_append_left _ h)
theorem lw_t3 {w : Cond} (h : w ∈ tables_1_3) : w ∈ tables_1 := List.mem_append_right _ (List.mem_append_right _ (List.mem_append_left _ h))
theorem lw_t4 {w : Cond} (h : w ∈ tables_1_4) : w ∈ tables_1 := List.mem_append_right _ (List.mem_append_right _ (List.mem_append_right _ (List.mem_append_left _ h)))
theorem lw_t5 {w : Cond} (h : w ∈ tables_1_5) : w ∈ tables_1 := List.mem_append_right _ (List.mem_append_right _ (List.mem_append_right _ (List.mem_append_right _ (List.mem_append_left _ h))))
theorem lw_t6 {w : Cond} (h : w ∈ tables_1_6) : w ∈ tables_1 := List.mem_append_right _ (List.mem_append_right _ (List.mem_append_right _ (List.mem_append_right _ (List.mem_append_right _ h))))
theorem lw_p0 : lw_okq (⟨"java/lang/NullPointerException", "getExtendedNPEMessage", "()Ljava/lang/String;"⟩, 8) := ⟨⟨by decide +kernel, by decide +kernel⟩, lw_t1 (List.mem_of_getElem? (i := 151) rfl), lw_t1 (List.mem_of_getElem? (i := 149) rfl), lw_t1 (List.mem_of_getElem? (i := 150) rfl)⟩
theorem lw_p1 : lw_okq (⟨"java/lang/Throwable", "fillInStackTrace", "(I)Ljava/lang/Throwable;"⟩, 6) := ⟨⟨by decide +kernel, by decide +kernel⟩, lw_t1 (List.mem_of_getElem? (i := 163) rfl), lw_t1 (List.mem_of_getElem? (i := 161) rfl), lw_t1 (List.mem_of_getElem? (i := 162) rfl)⟩
theorem lw_p2 : lw_okq (⟨"SevenRings", "readRings", "()I"⟩, 21) := ⟨⟨by decide +kernel, by decide +kernel⟩, lw_t1 (List.mem_of_getElem? (i := 34) rfl), lw_t2 (List.mem_of_getElem? (i := 71) rfl), lw_t2 (List.mem_of_getElem? (i := 72) rfl)⟩
theorem lw_p3 : lw_okq (⟨"SevenRings", "readDigit", "(II)I"⟩, 21) := ⟨⟨by decide +kernel, by decide +kernel⟩, lw_t1 (List.mem_of_getElem? (i := 34) rfl), lw_t2 (List.mem_of_getElem? (i := 75) rfl), lw_t2 (List.mem_of_getElem? (i := 76) rfl)⟩
theorem lw_p4 : lw_okq (⟨"SevenRings", "nextByte", "()I"⟩, 21) := ⟨⟨by decide +kernel, by decide +kernel⟩, lw_t1 (List.mem_of_getElem? (i := 34) rfl), lw_t2 (List.mem_of_getElem? (i := 79) rfl), lw_t2 (List.mem_of_getElem? (i := 80) rfl)⟩
theorem lw_p5 : lw_okq (⟨"SevenRings", "wrong", "()LSevenRings$Fault;"⟩, 21) := ⟨⟨by decide +kernel, by decide +kernel⟩, lw_t1 (List.mem_of_getElem? (i := 34) rfl), lw_t2 (List.mem_of_getElem? (i := 83) rfl), lw_t2 (List.mem_of_getElem? (i := 84) rfl)⟩
theorem lw_p6 : lw_okq (⟨"SevenRings", "takes", "(I)Z"⟩, 21) := ⟨⟨by decide +kernel, by decide +kernel⟩, lw_t1 (List.mem_of_getElem? (i := 34) rfl), lw_t2 (List.mem_of_getElem? (i := 87) rfl), lw_t2 (List.mem_of_getElem? (i := 88) rfl)⟩
theorem lw_p7 : lw_okq (⟨"SevenRings", "readFar", "()I"⟩, 21) := ⟨⟨by decide +kernel, by decide +kernel⟩, lw_t1 (List.mem_of_getElem? (i := 34) rfl), lw_t2 (List.mem_of_getElem? (i := 91) rfl), lw_t2 (List.mem_of_getElem? (i := 92) rfl)⟩
theorem lw_p8 : lw_okq (⟨"SevenRings", "readSea", "()V"⟩, 21) := ⟨⟨by decide +kernel, by decide +kernel⟩, lw_t1 (List.mem_of_getElem? (i := 34) rfl), lw_t2 (List.mem_of_getElem? (i := 102) rfl), lw_t2 (List.mem_of_getElem? (i := 103) rfl)⟩
theorem lw_p9 : lw_okq (⟨"SevenRings", "counted", "()LSevenRings$Counter;"⟩, 21) := ⟨⟨by decide +kernel, by decide +kernel⟩, lw_t1 (List.mem_of_getElem? (i := 34) rfl), lw_t2 (List.mem_of_getElem? (i := 110) rfl), lw_t2 (List.mem_of_getElem? (i := 111) rfl)⟩
theorem lw_p10 : lw_okq (⟨"SevenRings", "goAll", "(LSevenRings$Hearer;IZ)V"⟩, 21) := ⟨⟨by decide +kernel, by decide +kernel⟩, lw_t1 (List.mem_of_getElem? (i := 34) rfl), lw_t2 (List.mem_of_getElem? (i := 132) rfl), lw_t2 (List.mem_of_getElem? (i := 133) rfl)⟩
theorem lw_p11 : lw_okq (⟨"SevenRings", "goOn", "(LSevenRings$Hearer;II)Z"⟩, 21) := ⟨⟨by decide +kernel, by decide +kernel⟩, lw_t1 (List.mem_of_getElem? (i := 34) rfl), lw_t2 (List.mem_of_getElem? (i := 136) rfl), lw_t2 (List.mem_of_getElem? (i := 137) rfl)⟩
theorem lw_p12 : lw_okq (⟨"SevenRings", "ringOf", "(I)I"⟩, 21) := ⟨⟨by decide +kernel, by decide +kernel⟩, lw_t1 (List.mem_of_getElem? (i := 34) rfl), lw_t2 (List.mem_of_getElem? (i := 146) rfl), lw_t2 (List.mem_of_getElem? (i := 147) rfl)⟩
theorem lw_p13 : lw_okq (⟨"SevenRings", "hasRing", "(I)Z"⟩, 21) := ⟨⟨by decide +kernel, by decide +kernel⟩, lw_t1 (List.mem_of_getElem? (i := 34) rfl), lw_t2 (List.mem_of_getElem? (i := 150) rfl), lw_t2 (List.mem_of_getElem? (i := 151) rfl)⟩
theorem lw_p14 : lw_okq (⟨"SevenRings", "tell", "(LSevenRings$Hearer;I)Z"⟩, 21) := ⟨⟨by decide +kernel, by decide +kernel⟩, lw_t1 (List.mem_of_getElem? (i := 34) rfl), lw_t2 (List.mem_of_getElem? (i := 161) rfl), lw_t2 (List.mem_of_getElem? (i := 162) rfl)⟩
theorem lw_p15 : lw_okq (⟨"SevenRings", "choose", "(LSevenRings$Hearer;II)Z"⟩, 21) := ⟨⟨by decide +kernel, by decide +kernel⟩, lw_t1 (List.mem_of_getElem? (i := 34) rfl), lw_t2 (List.mem_of_getElem? (i := 188) rfl), lw_t2 (List.mem_of_getElem? (i := 189) rfl)⟩
def lw_privs_1 : List (MethodName × Nat) := [(⟨"java/lang/NullPointerException", "getExtendedNPEMessage", "()Ljava/lang/String;"⟩, 8), (⟨"java/lang/Throwable", "fillInStackTrace", "(I)Ljava/lang/Throwable;"⟩, 6), (⟨"SevenRings", "readRings", "()I"⟩, 21), (⟨"SevenRings", "readDigit", "(II)I"⟩, 21), (⟨"SevenRings", "nextByte", "()I"⟩, 21), (⟨"SevenRings", "wrong", "()LSevenRings$Fault;"⟩, 21), (⟨"SevenRings", "takes", "(I)Z"⟩, 21), (⟨"SevenRings", "readFar", "()I"⟩, 21), (⟨"SevenRings", "readSea", "()V"⟩, 21), (⟨"SevenRings", "counted", "()LSevenRings$Counter;"⟩, 21), (⟨"SevenRings", "goAll", "(LSevenRings$Hearer;IZ)V"⟩, 21), (⟨"SevenRings", "goOn", "(LSevenRings$Hearer;II)Z"⟩, 21), (⟨"SevenRings", "ringOf", "(I)I"⟩, 21), (⟨"SevenRings", "hasRing", "(I)Z"⟩, 21), (⟨"SevenRings", "tell", "(LSevenRings$Hearer;I)Z"⟩, 21), (⟨"SevenRings", "choose", "(LSevenRings$Hearer;II)Z"⟩, 21)]
theorem lw_r1 : ∀ q ∈ lw_privs_1, lw_okq q := List.forall_mem_cons.mpr ⟨lw_p0, List.forall_mem_cons.mpr ⟨lw_p1, List.forall_mem_cons.mpr ⟨lw_p2, List.forall_mem_cons.mpr ⟨lw_p3, List.forall_mem_cons.mpr ⟨lw_p4, List.forall_mem_cons.mpr ⟨lw_p5, List.forall_mem_cons.mpr ⟨lw_p6, List.forall_mem_cons.mpr ⟨lw_p7, List.forall_mem_cons.mpr ⟨lw_p8, List.forall_mem_cons.mpr ⟨lw_p9, List.forall_mem_cons.mpr ⟨lw_p10, List.forall_mem_cons.mpr ⟨lw_p11, List.forall_mem_cons.mpr ⟨lw_p12, List.forall_mem_cons.mpr ⟨lw_p13, List.forall_mem_cons.mpr ⟨lw_p14, List.forall_mem_cons.mpr ⟨lw_p15, fun _ h => absurd h List.not_mem_nil⟩⟩⟩⟩⟩⟩⟩⟩⟩⟩⟩⟩⟩⟩⟩⟩
theorem lw_p16 : lw_okq (⟨"SevenRings", "slowAnd", "(LSevenRings$Hearer;II)Z"⟩, 21) := ⟨⟨by decide +kernel, by decide +kernel⟩, lw_t1 (List.mem_of_getElem? (i := 34) rfl), lw_t2 (List.mem_of_getElem? (i := 192) rfl), lw_t2 (List.mem_of_getElem? (i := 193) rfl)⟩
theorem lw_p17 : lw_okq (⟨"SevenRings", "sought", "(I)LSevenRings$Seeker;"⟩, 21) := ⟨⟨by decide +kernel, by decide +kernel⟩, lw_t1 (List.mem_of_getElem? (i := 34) rfl), lw_t2 (List.mem_of_getElem? (i := 204) rfl), lw_t2 (List.mem_of_getElem? (i := 205) rfl)⟩
theorem lw_p18 : lw_okq (⟨"java/util/ArrayList", "add", "(Ljava/lang/Object;[Ljava/lang/Object;I)V"⟩, 3) := ⟨⟨by decide +kernel, by decide +kernel⟩, lw_t1 (List.mem_of_getElem? (i := 48) rfl), lw_t3 (List.mem_of_getElem? (i := 68) rfl), lw_t3 (List.mem_of_getElem? (i := 69) rfl)⟩
theorem lw_p19 : lw_okq (⟨"java/util/ArrayList", "grow", "()[Ljava/lang/Object;"⟩, 3) := ⟨⟨by decide +kernel, by decide +kernel⟩, lw_t1 (List.mem_of_getElem? (i := 48) rfl), lw_t3 (List.mem_of_getElem? (i := 72) rfl), lw_t3 (List.mem_of_getElem? (i := 73) rfl)⟩
theorem lw_p20 : lw_okq (⟨"java/util/ArrayList", "grow", "(I)[Ljava/lang/Object;"⟩, 3) := ⟨⟨by decide +kernel, by decide +kernel⟩, lw_t1 (List.mem_of_getElem? (i := 48) rfl), lw_t3 (List.mem_of_getElem? (i := 76) rfl), lw_t3 (List.mem_of_getElem? (i := 77) rfl)⟩
theorem lw_p21 : lw_okq (⟨"SevenRings", "drifted", "(III)I"⟩, 21) := ⟨⟨by decide +kernel, by decide +kernel⟩, lw_t1 (List.mem_of_getElem? (i := 34) rfl), lw_t3 (List.mem_of_getElem? (i := 129) rfl), lw_t3 (List.mem_of_getElem? (i := 130) rfl)⟩
theorem lw_p22 : lw_okq (⟨"SevenRings", "findOdds", "(I[J)J"⟩, 21) := ⟨⟨by decide +kernel, by decide +kernel⟩, lw_t1 (List.mem_of_getElem? (i := 34) rfl), lw_t3 (List.mem_of_getElem? (i := 205) rfl), lw_t3 (List.mem_of_getElem? (i := 206) rfl)⟩
theorem lw_p23 : lw_okq (⟨"SevenRings", "isAssumption", "(I)Z"⟩, 21) := ⟨⟨by decide +kernel, by decide +kernel⟩, lw_t1 (List.mem_of_getElem? (i := 34) rfl), lw_t4 (List.mem_of_getElem? (i := 0) rfl), lw_t4 (List.mem_of_getElem? (i := 1) rfl)⟩
theorem lw_p24 : lw_okq (⟨"SevenRings", "movesBy", "(IJ)I"⟩, 21) := ⟨⟨by decide +kernel, by decide +kernel⟩, lw_t1 (List.mem_of_getElem? (i := 34) rfl), lw_t4 (List.mem_of_getElem? (i := 4) rfl), lw_t4 (List.mem_of_getElem? (i := 5) rfl)⟩
theorem lw_p25 : lw_okq (⟨"SevenRings", "isDragged", "(I)Z"⟩, 21) := ⟨⟨by decide +kernel, by decide +kernel⟩, lw_t1 (List.mem_of_getElem? (i := 34) rfl), lw_t4 (List.mem_of_getElem? (i := 21) rfl), lw_t4 (List.mem_of_getElem? (i := 22) rfl)⟩
theorem lw_p26 : lw_okq (⟨"SevenRings", "lacks", "(III)I"⟩, 21) := ⟨⟨by decide +kernel, by decide +kernel⟩, lw_t1 (List.mem_of_getElem? (i := 34) rfl), lw_t4 (List.mem_of_getElem? (i := 39) rfl), lw_t4 (List.mem_of_getElem? (i := 40) rfl)⟩
theorem lw_p27 : lw_okq (⟨"SevenRings", "isKnown", "(LSevenRings$Sheet;I)Z"⟩, 21) := ⟨⟨by decide +kernel, by decide +kernel⟩, lw_t1 (List.mem_of_getElem? (i := 34) rfl), lw_t4 (List.mem_of_getElem? (i := 54) rfl), lw_t4 (List.mem_of_getElem? (i := 55) rfl)⟩
theorem lw_p28 : lw_okq (⟨"SevenRings", "heldBy", "(LSevenRings$Sheet;I)I"⟩, 21) := ⟨⟨by decide +kernel, by decide +kernel⟩, lw_t1 (List.mem_of_getElem? (i := 34) rfl), lw_t4 (List.mem_of_getElem? (i := 77) rfl), lw_t4 (List.mem_of_getElem? (i := 78) rfl)⟩
theorem lw_p29 : lw_okq (⟨"SevenRingsModel", "away", "(I)I"⟩, 42) := ⟨⟨by decide +kernel, by decide +kernel⟩, lw_t5 (List.mem_of_getElem? (i := 6) rfl), lw_t5 (List.mem_of_getElem? (i := 155) rfl), lw_t5 (List.mem_of_getElem? (i := 156) rfl)⟩
theorem lw_p30 : lw_okq (⟨"SevenRingsModel", "digit", "(II)I"⟩, 42) := ⟨⟨by decide +kernel, by decide +kernel⟩, lw_t5 (List.mem_of_getElem? (i := 6) rfl), lw_t5 (List.mem_of_getElem? (i := 179) rfl), lw_t5 (List.mem_of_getElem? (i := 180) rfl)⟩
theorem lw_p31 : lw_okq (⟨"SevenRingsModel", "here", "()I"⟩, 42) := ⟨⟨by decide +kernel, by decide +kernel⟩, lw_t5 (List.mem_of_getElem? (i := 6) rfl), lw_t5 (List.mem_of_getElem? (i := 183) rfl), lw_t5 (List.mem_of_getElem? (i := 184) rfl)⟩
def lw_privs_2 : List (MethodName × Nat) := [(⟨"SevenRings", "slowAnd", "(LSevenRings$Hearer;II)Z"⟩, 21), (⟨"SevenRings", "sought", "(I)LSevenRings$Seeker;"⟩, 21), (⟨"java/util/ArrayList", "add", "(Ljava/lang/Object;[Ljava/lang/Object;I)V"⟩, 3), (⟨"java/util/ArrayList", "grow", "()[Ljava/lang/Object;"⟩, 3), (⟨"java/util/ArrayList", "grow", "(I)[Ljava/lang/Object;"⟩, 3), (⟨"SevenRings", "drifted", "(III)I"⟩, 21), (⟨"SevenRings", "findOdds", "(I[J)J"⟩, 21), (⟨"SevenRings", "isAssumption", "(I)Z"⟩, 21), (⟨"SevenRings", "movesBy", "(IJ)I"⟩, 21), (⟨"SevenRings", "isDragged", "(I)Z"⟩, 21), (⟨"SevenRings", "lacks", "(III)I"⟩, 21), (⟨"SevenRings", "isKnown", "(LSevenRings$Sheet;I)Z"⟩, 21), (⟨"SevenRings", "heldBy", "(LSevenRings$Sheet;I)I"⟩, 21), (⟨"SevenRingsModel", "away", "(I)I"⟩, 42), (⟨"SevenRingsModel", "digit", "(II)I"⟩, 42), (⟨"SevenRingsModel", "here", "()I"⟩, 42)]
theorem lw_r2 : ∀ q ∈ lw_privs_2, lw_okq q := List.forall_mem_cons.mpr ⟨lw_p16, List.forall_mem_cons.mpr ⟨lw_p17, List.forall_mem_cons.mpr ⟨lw_p18, List.forall_mem_cons.mpr ⟨lw_p19, List.forall_mem_cons.mpr ⟨lw_p20, List.forall_mem_cons.mpr ⟨lw_p21, List.forall_mem_cons.mpr ⟨lw_p22, List.forall_mem_cons.mpr ⟨lw_p23, List.forall_mem_cons.mpr ⟨lw_p24, List.forall_mem_cons.mpr ⟨lw_p25, List.forall_mem_cons.mpr ⟨lw_p26, List.forall_mem_cons.mpr ⟨lw_p27, List.forall_mem_cons.mpr ⟨lw_p28, List.forall_mem_cons.mpr ⟨lw_p29, List.forall_mem_cons.mpr ⟨lw_p30, List.forall_mem_cons.mpr ⟨lw_p31, fun _ h => absurd h List.not_mem_nil⟩⟩⟩⟩⟩⟩⟩⟩⟩⟩⟩⟩⟩⟩⟩⟩
theorem lw_p32 : lw_okq (⟨"SevenRingsModel", "number", "()I"⟩, 42) := ⟨⟨by decide +kernel, by decide +kernel⟩, lw_t5 (List.mem_of_getElem? (i := 6) rfl), lw_t5 (List.mem_of_getElem? (i := 187) rfl), lw_t5 (List.mem_of_getElem? (i := 188) rfl)⟩
theorem lw_p33 : lw_okq (⟨"SevenRingsModel", "asTold", "()V"⟩, 42) := ⟨⟨by decide +kernel, by decide +kernel⟩, lw_t5 (List.mem_of_getElem? (i := 6) rfl), lw_t5 (List.mem_of_getElem? (i := 202) rfl), lw_t5 (List.mem_of_getElem? (i := 203) rfl)⟩
theorem lw_p34 : lw_okq (⟨"SevenRingsModel", "begins", "()V"⟩, 42) := ⟨⟨by decide +kernel, by decide +kernel⟩, lw_t5 (List.mem_of_getElem? (i := 6) rfl), lw_t5 (List.mem_of_getElem? (i := 206) rfl), lw_t5 (List.mem_of_getElem? (i := 207) rfl)⟩
theorem lw_p35 : lw_okq (⟨"SevenRingsModel", "goesOn", "()Z"⟩, 42) := ⟨⟨by decide +kernel, by decide +kernel⟩, lw_t5 (List.mem_of_getElem? (i := 6) rfl), lw_t5 (List.mem_of_getElem? (i := 210) rfl), lw_t5 (List.mem_of_getElem? (i := 211) rfl)⟩
theorem lw_p36 : lw_okq (⟨"SevenRingsModel", "goes", "()Z"⟩, 42) := ⟨⟨by decide +kernel, by decide +kernel⟩, lw_t5 (List.mem_of_getElem? (i := 6) rfl), lw_t5 (List.mem_of_getElem? (i := 214) rfl), lw_t5 (List.mem_of_getElem? (i := 215) rfl)⟩
theorem lw_p37 : lw_okq (⟨"SevenRingsModel", "ringed", "(I)I"⟩, 42) := ⟨⟨by decide +kernel, by decide +kernel⟩, lw_t5 (List.mem_of_getElem? (i := 6) rfl), lw_t5 (List.mem_of_getElem? (i := 227) rfl), lw_t5 (List.mem_of_getElem? (i := 228) rfl)⟩
theorem lw_p38 : lw_okq (⟨"SevenRingsModel", "heavy", "()I"⟩, 42) := ⟨⟨by decide +kernel, by decide +kernel⟩, lw_t5 (List.mem_of_getElem? (i := 6) rfl), lw_t5 (List.mem_of_getElem? (i := 235) rfl), lw_t5 (List.mem_of_getElem? (i := 236) rfl)⟩
theorem lw_p39 : lw_okq (⟨"SevenRingsModel", "finds", "(I)Z"⟩, 42) := ⟨⟨by decide +kernel, by decide +kernel⟩, lw_t5 (List.mem_of_getElem? (i := 6) rfl), lw_t6 (List.mem_of_getElem? (i := 4) rfl), lw_t6 (List.mem_of_getElem? (i := 5) rfl)⟩
theorem lw_p40 : lw_okq (⟨"SevenRingsModel", "driftTo", "(III)I"⟩, 42) := ⟨⟨by decide +kernel, by decide +kernel⟩, lw_t5 (List.mem_of_getElem? (i := 6) rfl), lw_t6 (List.mem_of_getElem? (i := 29) rfl), lw_t6 (List.mem_of_getElem? (i := 30) rfl)⟩
theorem lw_p41 : lw_okq (⟨"SevenRingsModel", "drifted", "(III)I"⟩, 42) := ⟨⟨by decide +kernel, by decide +kernel⟩, lw_t5 (List.mem_of_getElem? (i := 6) rfl), lw_t6 (List.mem_of_getElem? (i := 33) rfl), lw_t6 (List.mem_of_getElem? (i := 34) rfl)⟩
theorem lw_p42 : lw_okq (⟨"SevenRingsModel", "fit", "(II)I"⟩, 42) := ⟨⟨by decide +kernel, by decide +kernel⟩, lw_t5 (List.mem_of_getElem? (i := 6) rfl), lw_t6 (List.mem_of_getElem? (i := 41) rfl), lw_t6 (List.mem_of_getElem? (i := 42) rfl)⟩
theorem lw_p43 : lw_okq (⟨"SevenRingsModel", "endsAsTold", "()V"⟩, 42) := ⟨⟨by decide +kernel, by decide +kernel⟩, lw_t5 (List.mem_of_getElem? (i := 6) rfl), lw_t6 (List.mem_of_getElem? (i := 57) rfl), lw_t6 (List.mem_of_getElem? (i := 58) rfl)⟩
theorem lw_p44 : lw_okq (⟨"SevenRingsModel", "ends", "()V"⟩, 42) := ⟨⟨by decide +kernel, by decide +kernel⟩, lw_t5 (List.mem_of_getElem? (i := 6) rfl), lw_t6 (List.mem_of_getElem? (i := 61) rfl), lw_t6 (List.mem_of_getElem? (i := 62) rfl)⟩
theorem lw_p45 : lw_okq (⟨"SevenRingsModel", "isAssumption", "(I)Z"⟩, 42) := ⟨⟨by decide +kernel, by decide +kernel⟩, lw_t5 (List.mem_of_getElem? (i := 6) rfl), lw_t6 (List.mem_of_getElem? (i := 82) rfl), lw_t6 (List.mem_of_getElem? (i := 83) rfl)⟩
theorem lw_p46 : lw_okq (⟨"SevenRingsModel", "moved", "(I)I"⟩, 42) := ⟨⟨by decide +kernel, by decide +kernel⟩, lw_t5 (List.mem_of_getElem? (i := 6) rfl), lw_t6 (List.mem_of_getElem? (i := 87) rfl), lw_t6 (List.mem_of_getElem? (i := 88) rfl)⟩
theorem lw_p47 : lw_okq (⟨"SevenRingsModel", "thousandths", "(J)I"⟩, 42) := ⟨⟨by decide +kernel, by decide +kernel⟩, lw_t5 (List.mem_of_getElem? (i := 6) rfl), lw_t6 (List.mem_of_getElem? (i := 91) rfl), lw_t6 (List.mem_of_getElem? (i := 92) rfl)⟩
def lw_privs_3 : List (MethodName × Nat) := [(⟨"SevenRingsModel", "number", "()I"⟩, 42), (⟨"SevenRingsModel", "asTold", "()V"⟩, 42), (⟨"SevenRingsModel", "begins", "()V"⟩, 42), (⟨"SevenRingsModel", "goesOn", "()Z"⟩, 42), (⟨"SevenRingsModel", "goes", "()Z"⟩, 42), (⟨"SevenRingsModel", "ringed", "(I)I"⟩, 42), (⟨"SevenRingsModel", "heavy", "()I"⟩, 42), (⟨"SevenRingsModel", "finds", "(I)Z"⟩, 42), (⟨"SevenRingsModel", "driftTo", "(III)I"⟩, 42), (⟨"SevenRingsModel", "drifted", "(III)I"⟩, 42), (⟨"SevenRingsModel", "fit", "(II)I"⟩, 42), (⟨"SevenRingsModel", "endsAsTold", "()V"⟩, 42), (⟨"SevenRingsModel", "ends", "()V"⟩, 42), (⟨"SevenRingsModel", "isAssumption", "(I)Z"⟩, 42), (⟨"SevenRingsModel", "moved", "(I)I"⟩, 42), (⟨"SevenRingsModel", "thousandths", "(J)I"⟩, 42)]
theorem lw_r3 : ∀ q ∈ lw_privs_3, lw_okq q := List.forall_mem_cons.mpr ⟨lw_p32, List.forall_mem_cons.mpr ⟨lw_p33, List.forall_mem_cons.mpr ⟨lw_p34, List.forall_mem_cons.mpr ⟨lw_p35, List.forall_mem_cons.mpr ⟨lw_p36, List.forall_mem_cons.mpr ⟨lw_p37, List.forall_mem_cons.mpr ⟨lw_p38, List.forall_mem_cons.mpr ⟨lw_p39, List.forall_mem_cons.mpr ⟨lw_p40, List.forall_mem_cons.mpr ⟨lw_p41, List.forall_mem_cons.mpr ⟨lw_p42, List.forall_mem_cons.mpr ⟨lw_p43, List.forall_mem_cons.mpr ⟨lw_p44, List.forall_mem_cons.mpr ⟨lw_p45, List.forall_mem_cons.mpr ⟨lw_p46, List.forall_mem_cons.mpr ⟨lw_p47, fun _ h => absurd h List.not_mem_nil⟩⟩⟩⟩⟩⟩⟩⟩⟩⟩⟩⟩⟩⟩⟩⟩
theorem lw_p48 : lw_okq (⟨"SevenRingsModel", "refuses", "(IIII)I"⟩, 42) := ⟨⟨by decide +kernel, by decide +kernel⟩, lw_t5 (List.mem_of_getElem? (i := 6) rfl), lw_t6 (List.mem_of_getElem? (i := 119) rfl), lw_t6 (List.mem_of_getElem? (i := 120) rfl)⟩
theorem lw_p49 : lw_okq (⟨"SevenRingsModel", "isKnown", "(I)Z"⟩, 42) := ⟨⟨by decide +kernel, by decide +kernel⟩, lw_t5 (List.mem_of_getElem? (i := 6) rfl), lw_t6 (List.mem_of_getElem? (i := 123) rfl), lw_t6 (List.mem_of_getElem? (i := 124) rfl)⟩
def lw_privs_4 : List (MethodName × Nat) := [(⟨"SevenRingsModel", "refuses", "(IIII)I"⟩, 42), (⟨"SevenRingsModel", "isKnown", "(I)Z"⟩, 42)]
theorem lw_r4 : ∀ q ∈ lw_privs_4, lw_okq q := List.forall_mem_cons.mpr ⟨lw_p48, List.forall_mem_cons.mpr ⟨lw_p49, fun _ h => absurd h List.not_mem_nil⟩⟩
def lw_privs : List (MethodName × Nat) := lw_privs_1 ++ (lw_privs_2 ++ (lw_privs_3 ++ (lw_privs_4)))
def lw_tbl : List Cond := k2_sels lw_privs ++ tables_1
theorem lw_privs_ok : ∀ q ∈ lw_privs, lw_okq q := by
  show ∀ q ∈ lw_privs_1 ++ (lw_privs_2 ++ (lw_privs_3 ++ (lw_privs_4))), lw_okq q
  exact List.forall_mem_append.mpr ⟨lw_r1, List.forall_mem_append.mpr ⟨lw_r2, List.forall_mem_append.mpr ⟨lw_r3, lw_r4⟩⟩⟩
-- ===== ONE list of words for every method: the tables' words that hold all through a run =====
def lw_all : List Cond := lw_tbl.filter goodWord
/-- a word of the tables by its place: claim/WORDS.tsv -/
theorem lw_w {w : Cond} (i : Nat) (h : lw_tbl[i]? = some w) (g : goodWord w = true) : w ∈ lw_all := List.mem_filter.mpr ⟨List.mem_of_getElem? h, g⟩
theorem lw_all_tbl {w : Cond} (h : w ∈ lw_all) : w ∈ lw_tbl := (List.mem_filter.mp h).1
theorem lw_self : GoodIn lw_all lw_all := fun w h => ⟨h, good_of_word (List.mem_filter.mp h).2⟩
/-- a class's field words, by their places -/
theorem lw_in (ws : List Cond) (ps : List Nat) (hp : ws = ps.filterMap (fun i => lw_tbl[i]?)) (hg : ws.all goodWord = true) : ∀ w ∈ ws, w ∈ lw_all := by
  intro w h
  have h1 := List.all_eq_true.mp hg w h
  rw [hp] at h
  obtain ⟨i, -, hi⟩ := List.mem_filterMap.mp h
  exact lw_w i hi h1
/-- the words of a contract for the method y with code b, L locals, answer r -/
abbrev ws_ (y : MethodName) (b : ByteArray) (L : Nat) (r : Option FieldType) : List Cond := Cond.code y b L r :: lw_all
theorem lw_meth {y : MethodName} {b : ByteArray} {L : Nat} {r : Option FieldType} (h : Cond.code y b L r ∈ lw_all) : GoodIn lw_all (ws_ y b L r) := by
  intro w hw
  rcases List.mem_cons.mp hw with e | e
  · rw [e]
    exact lw_self _ h
  · exact lw_self _ e
theorem lw_app {a c : List Cond} (ha : ∀ w ∈ a, w ∈ lw_all) (hc : GoodIn lw_all c) : GoodIn lw_all (a ++ c) := by
  intro w hw
  rcases List.mem_append.mp hw with e | e
  · exact lw_self w (ha w e)
  · exact hc w e
/-- what a call through an object asks: cwV n hts (lw_V ..) -/
theorem lw_V {own : String} {idx : Nat} {C : String} {y : MethodName} {b : ByteArray} {L : Nat} {r : Option FieldType} (h1 : Cond.methodLink own idx y ∈ lw_all) (h2 : Cond.instanceMethod y ∈ lw_all) (h3 : Cond.selects C y y ∈ lw_all) (h4 : Cond.initialized C ∈ lw_all) (h5 : Cond.code y b L r ∈ lw_all) : GoodIn lw_all (wsV own idx C y (ws_ y b L r)) := by
  refine lw_app ?_ (lw_meth h5)
  intro w hw
  simp only [List.mem_cons, List.not_mem_nil, or_false] at hw
  rcases hw with e | e | e | e
  · rw [e]; exact h1
  · rw [e]; exact h2
  · rw [e]; exact h3
  · rw [e]; exact h4
/-- what a static call asks: va_cwS n hts (lw_S ..) -/
theorem lw_S {own : String} {idx : Nat} {y : MethodName} {b : ByteArray} {L : Nat} {r : Option FieldType} (h1 : Cond.methodLink own idx y ∈ lw_all) (h2 : Cond.static y ∈ lw_all) (h3 : Cond.initialized y.cls ∈ lw_all) (h4 : Cond.code y b L r ∈ lw_all) : GoodIn lw_all (va_wsS own idx y (ws_ y b L r)) := by
  refine lw_app ?_ (lw_meth h4)
  intro w hw
  simp only [List.mem_cons, List.not_mem_nil, or_false] at hw
  rcases hw with e | e | e
  · rw [e]; exact h1
  · rw [e]; exact h2
  · rw [e]; exact h3
/-- the words of a contract for a method WITH HANDLERS (hh: its table) -/
abbrev wsW_ (y : MethodName) (b : ByteArray) (L : Nat) (r : Option FieldType) (hh : List (Nat × Nat × Nat × Nat)) : List Cond := Cond.codeWith y b L r hh :: lw_all
theorem lw_methW {y : MethodName} {b : ByteArray} {L : Nat} {r : Option FieldType} {hh : List (Nat × Nat × Nat × Nat)} (h : Cond.codeWith y b L r hh ∈ lw_all) : GoodIn lw_all (wsW_ y b L r hh) := by
  intro w hw
  rcases List.mem_cons.mp hw with e | e
  · rw [e]
    exact lw_self _ h
  · exact lw_self _ e
/-- any list of words by their places (lw_in), good -/
theorem lw_good {ws : List Cond} (h : ∀ w ∈ ws, w ∈ lw_all) : GoodIn lw_all ws := fun w hw => lw_self w (h w hw)
/-- what a call of a method with handlers asks: vx_cwVW n hts (lw_VW ..), vx_cwSW n hts (lw_SW ..) -/
theorem lw_VW {own : String} {idx : Nat} {C : String} {y : MethodName} {b : ByteArray} {L : Nat} {r : Option FieldType} {hh : List (Nat × Nat × Nat × Nat)} (h1 : Cond.methodLink own idx y ∈ lw_all) (h2 : Cond.instanceMethod y ∈ lw_all) (h3 : Cond.selects C y y ∈ lw_all) (h4 : Cond.initialized C ∈ lw_all) (h5 : Cond.codeWith y b L r hh ∈ lw_all) : GoodIn lw_all (wsV own idx C y (wsW_ y b L r hh)) := by
  refine lw_app ?_ (lw_methW h5)
  intro w hw
  simp only [List.mem_cons, List.not_mem_nil, or_false] at hw
  rcases hw with e | e | e | e
  · rw [e]; exact h1
  · rw [e]; exact h2
  · rw [e]; exact h3
  · rw [e]; exact h4
theorem lw_SW {own : String} {idx : Nat} {y : MethodName} {b : ByteArray} {L : Nat} {r : Option FieldType} {hh : List (Nat × Nat × Nat × Nat)} (h1 : Cond.methodLink own idx y ∈ lw_all) (h2 : Cond.static y ∈ lw_all) (h3 : Cond.initialized y.cls ∈ lw_all) (h4 : Cond.codeWith y b L r hh ∈ lw_all) : GoodIn lw_all (va_wsS own idx y (wsW_ y b L r hh)) := by
  refine lw_app ?_ (lw_methW h4)
  intro w hw
  simp only [List.mem_cons, List.not_mem_nil, or_false] at hw
  rcases hw with e | e | e
  · rw [e]; exact h1
  · rw [e]; exact h2
  · rw [e]; exact h3
/-- a word by its place in its run of the tables -/
theorem lw_at {r : List Cond} (hr : ∀ w ∈ r, w ∈ lw_tbl) {w : Cond} (i : Nat) (h : r[i]? = some w) : w ∈ lw_tbl := hr w (List.mem_of_getElem? h)
theorem lw_g {w : Cond} (h : w ∈ lw_tbl) (g : goodWord w = true) : w ∈ lw_all := List.mem_filter.mpr ⟨h, g⟩
theorem lw_ms : ∀ w ∈ k2_sels lw_privs, w ∈ lw_tbl := fun w h => show w ∈ k2_sels lw_privs ++ tables_1 from List.mem_append_left _ h
theorem lw_m1 : ∀ w ∈ tables_1_1, w ∈ lw_tbl := fun w h => show w ∈ k2_sels lw_privs ++ tables_1 from List.mem_append_right (k2_sels lw_privs) (show w ∈ tables_1 from List.mem_append_left _ h)
theorem lw_m2 : ∀ w ∈ tables_1_2, w ∈ lw_tbl := fun w h => show w ∈ k2_sels lw_privs ++ tables_1 from List.mem_append_right (k2_sels lw_privs) (show w ∈ tables_1 from List.mem_append_right _ (List.mem_append_left _ h))
theorem lw_m3 : ∀ w ∈ tables_1_3, w ∈ lw_tbl := fun w h => show w ∈ k2_sels lw_privs ++ tables_1 from List.mem_append_right (k2_sels lw_privs) (show w ∈ tables_1 from List.mem_append_right _ (List.mem_append_right _ (List.mem_append_left _ h)))
theorem lw_m4 : ∀ w ∈ tables_1_4, w ∈ lw_tbl := fun w h => show w ∈ k2_sels lw_privs ++ tables_1 from List.mem_append_right (k2_sels lw_privs) (show w ∈ tables_1 from List.mem_append_right _ (List.mem_append_right _ (List.mem_append_right _ (List.mem_append_left _ h))))
theorem lw_m5 : ∀ w ∈ tables_1_5, w ∈ lw_tbl := fun w h => show w ∈ k2_sels lw_privs ++ tables_1 from List.mem_append_right (k2_sels lw_privs) (show w ∈ tables_1 from List.mem_append_right _ (List.mem_append_right _ (List.mem_append_right _ (List.mem_append_right _ (List.mem_append_left _ h)))))
theorem lw_m6 : ∀ w ∈ tables_1_6, w ∈ lw_tbl := fun w h => show w ∈ k2_sels lw_privs ++ tables_1 from List.mem_append_right (k2_sels lw_privs) (show w ∈ tables_1 from List.mem_append_right _ (List.mem_append_right _ (List.mem_append_right _ (List.mem_append_right _ (List.mem_append_right _ h)))))
theorem qs0 : (Cond.selects "java/lang/NullPointerException" ⟨"java/lang/NullPointerException", "getExtendedNPEMessage", "()Ljava/lang/String;"⟩ ⟨"java/lang/NullPointerException", "getExtendedNPEMessage", "()Ljava/lang/String;"⟩) ∈ lw_all := lw_g (lw_at lw_ms 0 rfl) rfl
theorem qs1 : (Cond.selects "java/lang/Throwable" ⟨"java/lang/Throwable", "fillInStackTrace", "(I)Ljava/lang/Throwable;"⟩ ⟨"java/lang/Throwable", "fillInStackTrace", "(I)Ljava/lang/Throwable;"⟩) ∈ lw_all := lw_g (lw_at lw_ms 1 rfl) rfl
theorem qs2 : (Cond.selects "SevenRings" ⟨"SevenRings", "readRings", "()I"⟩ ⟨"SevenRings", "readRings", "()I"⟩) ∈ lw_all := lw_g (lw_at lw_ms 2 rfl) rfl
theorem qs3 : (Cond.selects "SevenRings" ⟨"SevenRings", "readDigit", "(II)I"⟩ ⟨"SevenRings", "readDigit", "(II)I"⟩) ∈ lw_all := lw_g (lw_at lw_ms 3 rfl) rfl
theorem qs4 : (Cond.selects "SevenRings" ⟨"SevenRings", "nextByte", "()I"⟩ ⟨"SevenRings", "nextByte", "()I"⟩) ∈ lw_all := lw_g (lw_at lw_ms 4 rfl) rfl
theorem qs5 : (Cond.selects "SevenRings" ⟨"SevenRings", "wrong", "()LSevenRings$Fault;"⟩ ⟨"SevenRings", "wrong", "()LSevenRings$Fault;"⟩) ∈ lw_all := lw_g (lw_at lw_ms 5 rfl) rfl
theorem qs6 : (Cond.selects "SevenRings" ⟨"SevenRings", "takes", "(I)Z"⟩ ⟨"SevenRings", "takes", "(I)Z"⟩) ∈ lw_all := lw_g (lw_at lw_ms 6 rfl) rfl
theorem qs7 : (Cond.selects "SevenRings" ⟨"SevenRings", "readFar", "()I"⟩ ⟨"SevenRings", "readFar", "()I"⟩) ∈ lw_all := lw_g (lw_at lw_ms 7 rfl) rfl
theorem qs8 : (Cond.selects "SevenRings" ⟨"SevenRings", "readSea", "()V"⟩ ⟨"SevenRings", "readSea", "()V"⟩) ∈ lw_all := lw_g (lw_at lw_ms 8 rfl) rfl
theorem qs9 : (Cond.selects "SevenRings" ⟨"SevenRings", "counted", "()LSevenRings$Counter;"⟩ ⟨"SevenRings", "counted", "()LSevenRings$Counter;"⟩) ∈ lw_all := lw_g (lw_at lw_ms 9 rfl) rfl
theorem qs10 : (Cond.selects "SevenRings" ⟨"SevenRings", "goAll", "(LSevenRings$Hearer;IZ)V"⟩ ⟨"SevenRings", "goAll", "(LSevenRings$Hearer;IZ)V"⟩) ∈ lw_all := lw_g (lw_at lw_ms 10 rfl) rfl
theorem qs11 : (Cond.selects "SevenRings" ⟨"SevenRings", "goOn", "(LSevenRings$Hearer;II)Z"⟩ ⟨"SevenRings", "goOn", "(LSevenRings$Hearer;II)Z"⟩) ∈ lw_all := lw_g (lw_at lw_ms 11 rfl) rfl
theorem qs12 : (Cond.selects "SevenRings" ⟨"SevenRings", "ringOf", "(I)I"⟩ ⟨"SevenRings", "ringOf", "(I)I"⟩) ∈ lw_all := lw_g (lw_at lw_ms 12 rfl) rfl
theorem qs13 : (Cond.selects "SevenRings" ⟨"SevenRings", "hasRing", "(I)Z"⟩ ⟨"SevenRings", "hasRing", "(I)Z"⟩) ∈ lw_all := lw_g (lw_at lw_ms 13 rfl) rfl
theorem qs14 : (Cond.selects "SevenRings" ⟨"SevenRings", "tell", "(LSevenRings$Hearer;I)Z"⟩ ⟨"SevenRings", "tell", "(LSevenRings$Hearer;I)Z"⟩) ∈ lw_all := lw_g (lw_at lw_ms 14 rfl) rfl
theorem qs15 : (Cond.selects "SevenRings" ⟨"SevenRings", "choose", "(LSevenRings$Hearer;II)Z"⟩ ⟨"SevenRings", "choose", "(LSevenRings$Hearer;II)Z"⟩) ∈ lw_all := lw_g (lw_at lw_ms 15 rfl) rfl
theorem qs16 : (Cond.selects "SevenRings" ⟨"SevenRings", "slowAnd", "(LSevenRings$Hearer;II)Z"⟩ ⟨"SevenRings", "slowAnd", "(LSevenRings$Hearer;II)Z"⟩) ∈ lw_all := lw_g (lw_at lw_ms 16 rfl) rfl
theorem qs17 : (Cond.selects "SevenRings" ⟨"SevenRings", "sought", "(I)LSevenRings$Seeker;"⟩ ⟨"SevenRings", "sought", "(I)LSevenRings$Seeker;"⟩) ∈ lw_all := lw_g (lw_at lw_ms 17 rfl) rfl
theorem qs18 : (Cond.selects "java/util/ArrayList" ⟨"java/util/ArrayList", "add", "(Ljava/lang/Object;[Ljava/lang/Object;I)V"⟩ ⟨"java/util/ArrayList", "add", "(Ljava/lang/Object;[Ljava/lang/Object;I)V"⟩) ∈ lw_all := lw_g (lw_at lw_ms 18 rfl) rfl
theorem qs19 : (Cond.selects "java/util/ArrayList" ⟨"java/util/ArrayList", "grow", "()[Ljava/lang/Object;"⟩ ⟨"java/util/ArrayList", "grow", "()[Ljava/lang/Object;"⟩) ∈ lw_all := lw_g (lw_at lw_ms 19 rfl) rfl
theorem qs20 : (Cond.selects "java/util/ArrayList" ⟨"java/util/ArrayList", "grow", "(I)[Ljava/lang/Object;"⟩ ⟨"java/util/ArrayList", "grow", "(I)[Ljava/lang/Object;"⟩) ∈ lw_all := lw_g (lw_at lw_ms 20 rfl) rfl
theorem qs21 : (Cond.selects "SevenRings" ⟨"SevenRings", "drifted", "(III)I"⟩ ⟨"SevenRings", "drifted", "(III)I"⟩) ∈ lw_all := lw_g (lw_at lw_ms 21 rfl) rfl
theorem qs22 : (Cond.selects "SevenRings" ⟨"SevenRings", "findOdds", "(I[J)J"⟩ ⟨"SevenRings", "findOdds", "(I[J)J"⟩) ∈ lw_all := lw_g (lw_at lw_ms 22 rfl) rfl
theorem qs23 : (Cond.selects "SevenRings" ⟨"SevenRings", "isAssumption", "(I)Z"⟩ ⟨"SevenRings", "isAssumption", "(I)Z"⟩) ∈ lw_all := lw_g (lw_at lw_ms 23 rfl) rfl
theorem qs24 : (Cond.selects "SevenRings" ⟨"SevenRings", "movesBy", "(IJ)I"⟩ ⟨"SevenRings", "movesBy", "(IJ)I"⟩) ∈ lw_all := lw_g (lw_at lw_ms 24 rfl) rfl
theorem qs25 : (Cond.selects "SevenRings" ⟨"SevenRings", "isDragged", "(I)Z"⟩ ⟨"SevenRings", "isDragged", "(I)Z"⟩) ∈ lw_all := lw_g (lw_at lw_ms 25 rfl) rfl
theorem qs26 : (Cond.selects "SevenRings" ⟨"SevenRings", "lacks", "(III)I"⟩ ⟨"SevenRings", "lacks", "(III)I"⟩) ∈ lw_all := lw_g (lw_at lw_ms 26 rfl) rfl
theorem qs27 : (Cond.selects "SevenRings" ⟨"SevenRings", "isKnown", "(LSevenRings$Sheet;I)Z"⟩ ⟨"SevenRings", "isKnown", "(LSevenRings$Sheet;I)Z"⟩) ∈ lw_all := lw_g (lw_at lw_ms 27 rfl) rfl
theorem qs28 : (Cond.selects "SevenRings" ⟨"SevenRings", "heldBy", "(LSevenRings$Sheet;I)I"⟩ ⟨"SevenRings", "heldBy", "(LSevenRings$Sheet;I)I"⟩) ∈ lw_all := lw_g (lw_at lw_ms 28 rfl) rfl
theorem qs29 : (Cond.selects "SevenRingsModel" ⟨"SevenRingsModel", "away", "(I)I"⟩ ⟨"SevenRingsModel", "away", "(I)I"⟩) ∈ lw_all := lw_g (lw_at lw_ms 29 rfl) rfl
theorem qs30 : (Cond.selects "SevenRingsModel" ⟨"SevenRingsModel", "digit", "(II)I"⟩ ⟨"SevenRingsModel", "digit", "(II)I"⟩) ∈ lw_all := lw_g (lw_at lw_ms 30 rfl) rfl
theorem qs31 : (Cond.selects "SevenRingsModel" ⟨"SevenRingsModel", "here", "()I"⟩ ⟨"SevenRingsModel", "here", "()I"⟩) ∈ lw_all := lw_g (lw_at lw_ms 31 rfl) rfl
theorem qs32 : (Cond.selects "SevenRingsModel" ⟨"SevenRingsModel", "number", "()I"⟩ ⟨"SevenRingsModel", "number", "()I"⟩) ∈ lw_all := lw_g (lw_at lw_ms 32 rfl) rfl
theorem qs33 : (Cond.selects "SevenRingsModel" ⟨"SevenRingsModel", "asTold", "()V"⟩ ⟨"SevenRingsModel", "asTold", "()V"⟩) ∈ lw_all := lw_g (lw_at lw_ms 33 rfl) rfl
theorem qs34 : (Cond.selects "SevenRingsModel" ⟨"SevenRingsModel", "begins", "()V"⟩ ⟨"SevenRingsModel", "begins", "()V"⟩) ∈ lw_all := lw_g (lw_at lw_ms 34 rfl) rfl
theorem qs35 : (Cond.selects "SevenRingsModel" ⟨"SevenRingsModel", "goesOn", "()Z"⟩ ⟨"SevenRingsModel", "goesOn", "()Z"⟩) ∈ lw_all := lw_g (lw_at lw_ms 35 rfl) rfl
theorem qs36 : (Cond.selects "SevenRingsModel" ⟨"SevenRingsModel", "goes", "()Z"⟩ ⟨"SevenRingsModel", "goes", "()Z"⟩) ∈ lw_all := lw_g (lw_at lw_ms 36 rfl) rfl
theorem qs37 : (Cond.selects "SevenRingsModel" ⟨"SevenRingsModel", "ringed", "(I)I"⟩ ⟨"SevenRingsModel", "ringed", "(I)I"⟩) ∈ lw_all := lw_g (lw_at lw_ms 37 rfl) rfl
theorem qs38 : (Cond.selects "SevenRingsModel" ⟨"SevenRingsModel", "heavy", "()I"⟩ ⟨"SevenRingsModel", "heavy", "()I"⟩) ∈ lw_all := lw_g (lw_at lw_ms 38 rfl) rfl
theorem qs39 : (Cond.selects "SevenRingsModel" ⟨"SevenRingsModel", "finds", "(I)Z"⟩ ⟨"SevenRingsModel", "finds", "(I)Z"⟩) ∈ lw_all := lw_g (lw_at lw_ms 39 rfl) rfl
theorem qs40 : (Cond.selects "SevenRingsModel" ⟨"SevenRingsModel", "driftTo", "(III)I"⟩ ⟨"SevenRingsModel", "driftTo", "(III)I"⟩) ∈ lw_all := lw_g (lw_at lw_ms 40 rfl) rfl
theorem qs41 : (Cond.selects "SevenRingsModel" ⟨"SevenRingsModel", "drifted", "(III)I"⟩ ⟨"SevenRingsModel", "drifted", "(III)I"⟩) ∈ lw_all := lw_g (lw_at lw_ms 41 rfl) rfl
theorem qs42 : (Cond.selects "SevenRingsModel" ⟨"SevenRingsModel", "fit", "(II)I"⟩ ⟨"SevenRingsModel", "fit", "(II)I"⟩) ∈ lw_all := lw_g (lw_at lw_ms 42 rfl) rfl
theorem qs43 : (Cond.selects "SevenRingsModel" ⟨"SevenRingsModel", "endsAsTold", "()V"⟩ ⟨"SevenRingsModel", "endsAsTold", "()V"⟩) ∈ lw_all := lw_g (lw_at lw_ms 43 rfl) rfl
theorem qs44 : (Cond.selects "SevenRingsModel" ⟨"SevenRingsModel", "ends", "()V"⟩ ⟨"SevenRingsModel", "ends", "()V"⟩) ∈ lw_all := lw_g (lw_at lw_ms 44 rfl) rfl
theorem qs45 : (Cond.selects "SevenRingsModel" ⟨"SevenRingsModel", "isAssumption", "(I)Z"⟩ ⟨"SevenRingsModel", "isAssumption", "(I)Z"⟩) ∈ lw_all := lw_g (lw_at lw_ms 45 rfl) rfl
theorem qs46 : (Cond.selects "SevenRingsModel" ⟨"SevenRingsModel", "moved", "(I)I"⟩ ⟨"SevenRingsModel", "moved", "(I)I"⟩) ∈ lw_all := lw_g (lw_at lw_ms 46 rfl) rfl
theorem qs47 : (Cond.selects "SevenRingsModel" ⟨"SevenRingsModel", "thousandths", "(J)I"⟩ ⟨"SevenRingsModel", "thousandths", "(J)I"⟩) ∈ lw_all := lw_g (lw_at lw_ms 47 rfl) rfl
theorem qs48 : (Cond.selects "SevenRingsModel" ⟨"SevenRingsModel", "refuses", "(IIII)I"⟩ ⟨"SevenRingsModel", "refuses", "(IIII)I"⟩) ∈ lw_all := lw_g (lw_at lw_ms 48 rfl) rfl
theorem qs49 : (Cond.selects "SevenRingsModel" ⟨"SevenRingsModel", "isKnown", "(I)Z"⟩ ⟨"SevenRingsModel", "isKnown", "(I)Z"⟩) ∈ lw_all := lw_g (lw_at lw_ms 49 rfl) rfl
