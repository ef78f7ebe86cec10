/-! the words that the machine's own throws need (printed by gen/atoms.py) -/
set_option maxRecDepth 100000
section ATS
variable {G : GW} {y : MethodName} {cc : ByteArray} {nL : Nat} {ret : Option FieldType} {p : Program} {s : State} {m : MethodId} {args : Array Value} {meth : Method} {c : Code}
theorem hb_of (C1 : EC G y cc nL ret p s m args meth c) : ∀ w ∈ lw_tbl, exw w = true → w.before args s = true := fun w hw he => va_tabs (exw_on he) rfl (C1.2.2.2.2.2.1.1 w hw he)
theorem at_npe (C1 : EC G y cc nL ret p s m args meth c) : ∀ a ∈ Bundle.npeArmAtoms 8, a.before args s = true := by
  have ha := C1.1.2.2.2.2
  have hb := hb_of C1
  obtain ⟨-, -, -, -, -, -, -, z1, z2, -, -, -, l1, l2⟩ := C1.2.2.2.2.2.1
  have hr1 := isRef_Z (args := args) z1
  have hr2 := isRef_Z (args := args) z2
  have hs1 : (Cond.laysStatic "java/lang/Throwable" "UNASSIGNED_STACK" "[Ljava/lang/StackTraceElement;").before args s = true := l1
  have hs2 : (Cond.laysStatic "java/lang/Throwable" "SUPPRESSED_SENTINEL" "Ljava/util/List;").before args s = true := l2
  intro a h
  simp only [Bundle.npeArmAtoms, Bundle.throwableAtoms, Bundle.npeAtoms, Bundle.passAtoms, List.append_assoc, List.cons_append, List.nil_append, List.mem_cons, List.not_mem_nil, or_false] at h
  rcases h with rfl | rfl | rfl | rfl | rfl | rfl | rfl | rfl | rfl | rfl | rfl | rfl | rfl | rfl | rfl | rfl | rfl | rfl | rfl | rfl | rfl | rfl | rfl | rfl | rfl | rfl | rfl | rfl | rfl | rfl | rfl | rfl | rfl | rfl | rfl | rfl | rfl | rfl | rfl | rfl | rfl | rfl | rfl | rfl | rfl | rfl | rfl | rfl | rfl | rfl | rfl | rfl | rfl | rfl | rfl | rfl | rfl | rfl | rfl | rfl
  · exact ha _ q56
  · exact ha _ q180
  · exact ha _ q189
  · exact ha _ q209
  · exact ha _ q212
  · exact ha _ q214
  · exact ha _ q181
  · exact ha _ q182
  · exact ha _ q89
  · exact ha _ q90
  · exact ha _ q183
  · exact ha _ q188
  · exact ha _ q210
  · exact ha _ q227
  · exact ha _ q170
  · exact ha _ q228
  · exact ha _ q172
  · exact ha _ q229
  · exact ha _ q174
  · exact ha _ q184
  · exact hs1
  · exact ha _ q186
  · exact hs2
  · exact ha _ q176
  · exact ha _ q206
  · exact ha _ q196
  · exact ha _ q197
  · exact ha _ q945
  · exact ha _ q947
  · exact ha _ q203
  · exact ha _ q204
  · exact hb _ q959 rfl
  · exact ha _ q936
  · exact ha _ q937
  · exact ha _ q938
  · exact ha _ q939
  · exact hb _ q918 rfl
  · exact ha _ q939
  · exact ha _ q940
  · exact ha _ q941
  · exact ha _ q942
  · exact hb _ q163 rfl
  · exact ha _ q942
  · exact ha _ q943
  · exact ha _ q944
  · exact ha _ q181
  · exact hb _ q165 rfl
  · exact ha _ q78
  · exact ha _ q201
  · exact hb _ q957 rfl
  · exact ha _ q958
  · exact ha _ q195
  · exact ha _ q953
  · exact ha _ q954
  · exact ha _ q956
  · exact hr1
  · exact hr2
  · exact ha _ q225
  · exact ha _ q178
  · exact ha _ q951
theorem at_nas (C1 : EC G y cc nL ret p s m args meth c) : ∀ a ∈ Bundle.messageArmAtoms "java/lang/NegativeArraySizeException" ["java/lang/RuntimeException", "java/lang/Exception"], a.before args s = true := by
  have ha := C1.1.2.2.2.2
  have hb := hb_of C1
  obtain ⟨-, -, -, -, -, -, -, z1, z2, -, -, -, l1, l2⟩ := C1.2.2.2.2.2.1
  have hr1 := isRef_Z (args := args) z1
  have hr2 := isRef_Z (args := args) z2
  have hs1 : (Cond.laysStatic "java/lang/Throwable" "UNASSIGNED_STACK" "[Ljava/lang/StackTraceElement;").before args s = true := l1
  have hs2 : (Cond.laysStatic "java/lang/Throwable" "SUPPRESSED_SENTINEL" "Ljava/util/List;").before args s = true := l2
  intro a h
  simp only [Bundle.messageArmAtoms, Bundle.throwableAtoms, Bundle.throwableSAtoms, Bundle.stringAtoms, Bundle.chainSAtoms, Bundle.passSAtoms, List.append_assoc, List.cons_append, List.nil_append, List.mem_cons, List.not_mem_nil, or_false] at h
  rcases h with rfl | rfl | rfl | rfl | rfl | rfl | rfl | rfl | rfl | rfl | rfl | rfl | rfl | rfl | rfl | rfl | rfl | rfl | rfl | rfl | rfl | rfl | rfl | rfl | rfl | rfl | rfl | rfl | rfl | rfl | rfl | rfl | rfl | rfl | rfl | rfl | rfl | rfl | rfl | rfl | rfl | rfl | rfl | rfl | rfl | rfl | rfl | rfl | rfl | rfl | rfl | rfl | rfl | rfl | rfl | rfl | rfl | rfl | rfl | rfl | rfl | rfl | rfl | rfl
  · exact ha _ q56
  · exact ha _ q180
  · exact ha _ q189
  · exact ha _ q209
  · exact ha _ q212
  · exact ha _ q214
  · exact ha _ q181
  · exact ha _ q182
  · exact ha _ q89
  · exact ha _ q90
  · exact ha _ q183
  · exact ha _ q188
  · exact ha _ q210
  · exact ha _ q227
  · exact ha _ q170
  · exact ha _ q228
  · exact ha _ q172
  · exact ha _ q229
  · exact ha _ q174
  · exact ha _ q184
  · exact hs1
  · exact ha _ q186
  · exact hs2
  · exact ha _ q176
  · exact ha _ q908
  · exact ha _ q909
  · exact ha _ q226
  · exact ha _ q176
  · exact ha _ q899
  · exact ha _ q900
  · exact ha _ q901
  · exact ha _ q902
  · exact hb _ q919 rfl
  · exact ha _ q902
  · exact ha _ q903
  · exact ha _ q904
  · exact ha _ q905
  · exact hb _ q164 rfl
  · exact ha _ q905
  · exact ha _ q906
  · exact ha _ q907
  · exact ha _ q908
  · exact hb _ q166 rfl
  · exact ha _ q77
  · exact ha _ q921
  · exact ha _ q124
  · exact ha _ q922
  · exact ha _ q924
  · exact ha _ q923
  · exact ha _ q925
  · exact ha _ q76
  · exact ha _ q898
  · exact hb _ q917 rfl
  · exact ha _ q920
  · exact ha _ q194
  · exact ha _ q912
  · exact ha _ q913
  · exact ha _ q915
  · exact ha _ q911
  · exact hr1
  · exact hr2
  · exact ha _ q225
  · exact ha _ q178
  · exact ha _ q910
theorem at_cce (C1 : EC G y cc nL ret p s m args meth c) : ∀ a ∈ Bundle.messageArmAtoms "java/lang/ClassCastException" ["java/lang/RuntimeException", "java/lang/Exception"], a.before args s = true := by
  have ha := C1.1.2.2.2.2
  have hb := hb_of C1
  obtain ⟨-, -, -, -, -, -, -, z1, z2, -, -, -, l1, l2⟩ := C1.2.2.2.2.2.1
  have hr1 := isRef_Z (args := args) z1
  have hr2 := isRef_Z (args := args) z2
  have hs1 : (Cond.laysStatic "java/lang/Throwable" "UNASSIGNED_STACK" "[Ljava/lang/StackTraceElement;").before args s = true := l1
  have hs2 : (Cond.laysStatic "java/lang/Throwable" "SUPPRESSED_SENTINEL" "Ljava/util/List;").before args s = true := l2
  intro a h
  simp only [Bundle.messageArmAtoms, Bundle.throwableAtoms, Bundle.throwableSAtoms, Bundle.stringAtoms, Bundle.chainSAtoms, Bundle.passSAtoms, List.append_assoc, List.cons_append, List.nil_append, List.mem_cons, List.not_mem_nil, or_false] at h
  rcases h with rfl | rfl | rfl | rfl | rfl | rfl | rfl | rfl | rfl | rfl | rfl | rfl | rfl | rfl | rfl | rfl | rfl | rfl | rfl | rfl | rfl | rfl | rfl | rfl | rfl | rfl | rfl | rfl | rfl | rfl | rfl | rfl | rfl | rfl | rfl | rfl | rfl | rfl | rfl | rfl | rfl | rfl | rfl | rfl | rfl | rfl | rfl | rfl | rfl | rfl | rfl | rfl | rfl | rfl | rfl | rfl | rfl | rfl | rfl | rfl | rfl | rfl | rfl | rfl
  · exact ha _ q56
  · exact ha _ q180
  · exact ha _ q189
  · exact ha _ q209
  · exact ha _ q212
  · exact ha _ q214
  · exact ha _ q181
  · exact ha _ q182
  · exact ha _ q89
  · exact ha _ q90
  · exact ha _ q183
  · exact ha _ q188
  · exact ha _ q210
  · exact ha _ q227
  · exact ha _ q170
  · exact ha _ q228
  · exact ha _ q172
  · exact ha _ q229
  · exact ha _ q174
  · exact ha _ q184
  · exact hs1
  · exact ha _ q186
  · exact hs2
  · exact ha _ q176
  · exact ha _ q908
  · exact ha _ q909
  · exact ha _ q226
  · exact ha _ q176
  · exact ha _ q962
  · exact ha _ q963
  · exact ha _ q964
  · exact ha _ q902
  · exact hb _ q919 rfl
  · exact ha _ q902
  · exact ha _ q903
  · exact ha _ q904
  · exact ha _ q905
  · exact hb _ q164 rfl
  · exact ha _ q905
  · exact ha _ q906
  · exact ha _ q907
  · exact ha _ q908
  · exact hb _ q166 rfl
  · exact ha _ q77
  · exact ha _ q921
  · exact ha _ q124
  · exact ha _ q922
  · exact ha _ q924
  · exact ha _ q923
  · exact ha _ q925
  · exact ha _ q79
  · exact ha _ q961
  · exact hb _ q972 rfl
  · exact ha _ q973
  · exact ha _ q193
  · exact ha _ q967
  · exact ha _ q968
  · exact ha _ q970
  · exact ha _ q966
  · exact hr1
  · exact hr2
  · exact ha _ q225
  · exact ha _ q178
  · exact ha _ q965
theorem at_aio (C1 : EC G y cc nL ret p s m args meth c) : ∀ a ∈ Bundle.messageArmAtoms "java/lang/ArrayIndexOutOfBoundsException" ["java/lang/IndexOutOfBoundsException", "java/lang/RuntimeException", "java/lang/Exception"], a.before args s = true := by
  have ha := C1.1.2.2.2.2
  have hb := hb_of C1
  obtain ⟨-, -, -, -, -, -, -, z1, z2, -, -, -, l1, l2⟩ := C1.2.2.2.2.2.1
  have hr1 := isRef_Z (args := args) z1
  have hr2 := isRef_Z (args := args) z2
  have hs1 : (Cond.laysStatic "java/lang/Throwable" "UNASSIGNED_STACK" "[Ljava/lang/StackTraceElement;").before args s = true := l1
  have hs2 : (Cond.laysStatic "java/lang/Throwable" "SUPPRESSED_SENTINEL" "Ljava/util/List;").before args s = true := l2
  intro a h
  simp only [Bundle.messageArmAtoms, Bundle.throwableAtoms, Bundle.throwableSAtoms, Bundle.stringAtoms, Bundle.chainSAtoms, Bundle.passSAtoms, List.append_assoc, List.cons_append, List.nil_append, List.mem_cons, List.not_mem_nil, or_false] at h
  rcases h with rfl | rfl | rfl | rfl | rfl | rfl | rfl | rfl | rfl | rfl | rfl | rfl | rfl | rfl | rfl | rfl | rfl | rfl | rfl | rfl | rfl | rfl | rfl | rfl | rfl | rfl | rfl | rfl | rfl | rfl | rfl | rfl | rfl | rfl | rfl | rfl | rfl | rfl | rfl | rfl | rfl | rfl | rfl | rfl | rfl | rfl | rfl | rfl | rfl | rfl | rfl | rfl | rfl | rfl | rfl | rfl | rfl | rfl | rfl | rfl | rfl | rfl | rfl | rfl | rfl | rfl | rfl | rfl | rfl
  · exact ha _ q56
  · exact ha _ q180
  · exact ha _ q189
  · exact ha _ q209
  · exact ha _ q212
  · exact ha _ q214
  · exact ha _ q181
  · exact ha _ q182
  · exact ha _ q89
  · exact ha _ q90
  · exact ha _ q183
  · exact ha _ q188
  · exact ha _ q210
  · exact ha _ q227
  · exact ha _ q170
  · exact ha _ q228
  · exact ha _ q172
  · exact ha _ q229
  · exact ha _ q174
  · exact ha _ q184
  · exact hs1
  · exact ha _ q186
  · exact hs2
  · exact ha _ q176
  · exact ha _ q908
  · exact ha _ q909
  · exact ha _ q226
  · exact ha _ q176
  · exact ha _ q976
  · exact ha _ q977
  · exact ha _ q978
  · exact ha _ q979
  · exact hb _ q991 rfl
  · exact ha _ q979
  · exact ha _ q980
  · exact ha _ q981
  · exact ha _ q902
  · exact hb _ q919 rfl
  · exact ha _ q902
  · exact ha _ q903
  · exact ha _ q904
  · exact ha _ q905
  · exact hb _ q164 rfl
  · exact ha _ q905
  · exact ha _ q906
  · exact ha _ q907
  · exact ha _ q908
  · exact hb _ q166 rfl
  · exact ha _ q77
  · exact ha _ q921
  · exact ha _ q124
  · exact ha _ q922
  · exact ha _ q924
  · exact ha _ q923
  · exact ha _ q925
  · exact ha _ q81
  · exact ha _ q975
  · exact hb _ q989 rfl
  · exact ha _ q992
  · exact ha _ q191
  · exact ha _ q984
  · exact ha _ q985
  · exact ha _ q987
  · exact ha _ q983
  · exact hr1
  · exact hr2
  · exact ha _ q225
  · exact ha _ q178
  · exact ha _ q982
theorem at_ase (C1 : EC G y cc nL ret p s m args meth c) : ∀ a ∈ Bundle.messageArmAtoms "java/lang/ArrayStoreException" ["java/lang/RuntimeException", "java/lang/Exception"], a.before args s = true := by
  have ha := C1.1.2.2.2.2
  have hb := hb_of C1
  obtain ⟨-, -, -, -, -, -, -, z1, z2, -, -, -, l1, l2⟩ := C1.2.2.2.2.2.1
  have hr1 := isRef_Z (args := args) z1
  have hr2 := isRef_Z (args := args) z2
  have hs1 : (Cond.laysStatic "java/lang/Throwable" "UNASSIGNED_STACK" "[Ljava/lang/StackTraceElement;").before args s = true := l1
  have hs2 : (Cond.laysStatic "java/lang/Throwable" "SUPPRESSED_SENTINEL" "Ljava/util/List;").before args s = true := l2
  intro a h
  simp only [Bundle.messageArmAtoms, Bundle.throwableAtoms, Bundle.throwableSAtoms, Bundle.stringAtoms, Bundle.chainSAtoms, Bundle.passSAtoms, List.append_assoc, List.cons_append, List.nil_append, List.mem_cons, List.not_mem_nil, or_false] at h
  rcases h with rfl | rfl | rfl | rfl | rfl | rfl | rfl | rfl | rfl | rfl | rfl | rfl | rfl | rfl | rfl | rfl | rfl | rfl | rfl | rfl | rfl | rfl | rfl | rfl | rfl | rfl | rfl | rfl | rfl | rfl | rfl | rfl | rfl | rfl | rfl | rfl | rfl | rfl | rfl | rfl | rfl | rfl | rfl | rfl | rfl | rfl | rfl | rfl | rfl | rfl | rfl | rfl | rfl | rfl | rfl | rfl | rfl | rfl | rfl | rfl | rfl | rfl | rfl | rfl
  · exact ha _ q56
  · exact ha _ q180
  · exact ha _ q189
  · exact ha _ q209
  · exact ha _ q212
  · exact ha _ q214
  · exact ha _ q181
  · exact ha _ q182
  · exact ha _ q89
  · exact ha _ q90
  · exact ha _ q183
  · exact ha _ q188
  · exact ha _ q210
  · exact ha _ q227
  · exact ha _ q170
  · exact ha _ q228
  · exact ha _ q172
  · exact ha _ q229
  · exact ha _ q174
  · exact ha _ q184
  · exact hs1
  · exact ha _ q186
  · exact hs2
  · exact ha _ q176
  · exact ha _ q908
  · exact ha _ q909
  · exact ha _ q226
  · exact ha _ q176
  · exact ha _ q1002
  · exact ha _ q1003
  · exact ha _ q1004
  · exact ha _ q902
  · exact hb _ q919 rfl
  · exact ha _ q902
  · exact ha _ q903
  · exact ha _ q904
  · exact ha _ q905
  · exact hb _ q164 rfl
  · exact ha _ q905
  · exact ha _ q906
  · exact ha _ q907
  · exact ha _ q908
  · exact hb _ q166 rfl
  · exact ha _ q77
  · exact ha _ q921
  · exact ha _ q124
  · exact ha _ q922
  · exact ha _ q924
  · exact ha _ q923
  · exact ha _ q925
  · exact ha _ q82
  · exact ha _ q1001
  · exact hb _ q1012 rfl
  · exact ha _ q1013
  · exact ha _ q192
  · exact ha _ q1007
  · exact ha _ q1008
  · exact ha _ q1010
  · exact ha _ q1006
  · exact hr1
  · exact hr2
  · exact ha _ q225
  · exact ha _ q178
  · exact ha _ q1005
end ATS
