/-! THE RUN'S OWN CELLS AS AN ABSTRACT HEAP. A cell's number k stands for the address gN G + k (0: the static empty array of ArrayList, gd G); an abstract heap h gives for a number what the cell holds (none: nothing is said of it). Values speak of numbers; shv makes addresses of them (return addresses, which no method of the run has, stand for the mirror of Object[] (0) and for what Throwable's two statics hold (1, 2)). -/
set_option maxRecDepth 100000
abbrev AC : Type := (Nat × vp_A) ⊕ (Nat × List Value)
abbrev AH : Type := Nat → Option AC
abbrev GW : Type := va_G × (Nat → ClassId) × Nat × Nat × Nat × (Nat → Option Nat)
abbrev gD (G : GW) : va_G := G.1
abbrev gA (G : GW) : Nat → ClassId := G.2.1
abbrev gN (G : GW) : Nat := G.2.2.1
abbrev gd (G : GW) : Nat := G.2.2.2.1
/-- the mirror of Object[] -/
abbrev gM (G : GW) : Nat := G.2.2.2.2.1
/-- what Throwable's two statics hold: 1 UNASSIGNED_STACK, 2 SUPPRESSED_SENTINEL -/
abbrev gU (G : GW) : Nat → Option Nat := G.2.2.2.2.2
def rho (G : GW) : Nat → Nat
  | 0 => gd G
  | k + 1 => gN G + (k + 1)
def shv (G : GW) : Value → Value
  | .ref a => .ref (rho G a)
  | .int x => .int x
  | .long x => .long x
  | .float x => .float x
  | .double x => .double x
  | .null => .null
  | .retAddr 0 => .ref (gM G)
  | .retAddr (k + 1) => va_rf (gU G (k + 1))
def shs (G : GW) : List Value → List Value
  | [] => []
  | v :: l => shv G v :: shs G l
def sha (G : GW) (a : vp_A) : vp_A := (a.1, match a.2 with
  | .inl f => .inl f
  | .inr (.inl f) => .inr (.inl f)
  | .inr (.inr (.inl f)) => .inr (.inr (.inl f))
  | .inr (.inr (.inr (.inl f))) => .inr (.inr (.inr (.inl f)))
  | .inr (.inr (.inr (.inr f))) => .inr (.inr (.inr (.inr (fun j => (f j).map (rho G))))))
def shc (G : GW) : AC → va_E
  | .inl (k, a) => .inl (gA G k, sha G a)
  | .inr (c, fs) => .inr (c, shs G fs)
/-- arrays: ints, bytes, longs, booleans, shorts, Objects, Sheets -/
abbrev IA (n : Nat) (f : Nat → Int32) : AC := .inl (0, n, .inl f)
abbrev BA (n : Nat) (f : Nat → Int32) : AC := .inl (1, n, .inl f)
abbrev JA (n : Nat) (f : Nat → Int64) : AC := .inl (2, n, .inr (.inl f))
abbrev ZA (n : Nat) (f : Nat → Int32) : AC := .inl (3, n, .inl f)
abbrev SA (n : Nat) (f : Nat → Int32) : AC := .inl (4, n, .inl f)
abbrev RA (n : Nat) (f : Nat → Option Nat) : AC := .inl (5, n, .inr (.inr (.inr (.inr f))))
abbrev RS (n : Nat) (f : Nat → Option Nat) : AC := .inl (6, n, .inr (.inr (.inr (.inr f))))
abbrev OB (c : Nat) (fs : List Value) : AC := .inr (c, fs)
abbrev gT (G : GW) : List (ClassId × FieldType) := [(gA G 0, .int), (gA G 1, .byte), (gA G 2, .long), (gA G 3, .boolean), (gA G 4, .short), (gA G 5, .object "java/lang/Object"), (gA G 6, .object "SevenRings$Sheet")]
/-- the classes of the run's objects, by number -/
abbrev vwCl : List vw_C := [(RX0, TX0, 21), (RX1, TX1, 8), (RX2, TX2, 7), (RX3, TX3, 1), (RX4, TX4, 42), (RX6, TX6, 2), (RX7, TX7, 5), (RX8, TX8, 2), (RX9, TX9, 5), (RX10, TX10, 2), (RX11, TX11, 1), (RX12, TX12, 2), (RJ2, TJ2, 3)]
def HR (G : GW) (h : AH) (n : Nat) (H : Heap) : Prop := H.size = gN G + n ∧ 1 ≤ n ∧ h 0 = none ∧ ∀ (k : Nat) (c : AC), h k = some c → va_at (gD G) vwCl (rho G k, shc G c) H
abbrev gW (G : GW) : Nat → Prop := fun q => gN G < q
theorem rho_pos (G : GW) {k : Nat} (h : k ≠ 0) : rho G k = gN G + k := by
  cases k with
  | zero => exact absurd rfl h
  | succ k => rfl
theorem HR.ne {G : GW} {h : AH} {n : Nat} {H : Heap} (hR : HR G h n H) {k : Nat} {c : AC} (hk : h k = some c) : k ≠ 0 := by
  intro e
  subst e
  rw [hR.2.2.1] at hk
  cases hk
theorem HR.lt {G : GW} {h : AH} {n : Nat} {H : Heap} (hR : HR G h n H) {k : Nat} {c : AC} (hk : h k = some c) : k < n := by
  have h1 := (hR.2.2.2 k c hk).lt
  have h2 := rho_pos G (hR.ne hk)
  have h3 := hR.1
  dsimp only at h1
  rw [h2] at h1
  omega
theorem HR.one {G : GW} {h : AH} {n : Nat} {H : Heap} (hR : HR G h n H) {k : Nat} {c : AC} (hk : h k = some c) : va_P (gD G) vwCl [(rho G k, shc G c)] H := by
  intro j q hq
  cases j with
  | zero => cases hq; exact hR.2.2.2 k c hk
  | succ j => simp at hq
theorem HR.gw {G : GW} {h : AH} {n : Nat} {H : Heap} (hR : HR G h n H) {k : Nat} {c : AC} (hk : h k = some c) : gW G (rho G k) := by
  show gN G < rho G k
  rw [rho_pos G (hR.ne hk)]
  have := hR.ne hk
  omega
theorem HR.set {G : GW} {h : AH} {n : Nat} {H H1 : Heap} (hR : HR G h n H) {k : Nat} {c0 : AC} (c : AC) (hk : h k = some c0) (he : va_at (gD G) vwCl (rho G k, shc G c) H1) (z : H1.size = H.size) (oq : ∀ q : Nat, q ≠ rho G k → H1[q]? = H[q]?) : HR G (va_up h k (some c)) n H1 := by
  have hk0 := hR.ne hk
  refine ⟨by rw [z]; exact hR.1, hR.2.1, ?_, fun j d hj => ?_⟩
  · rw [va_up_ne _ _ (Ne.symm hk0)]; exact hR.2.2.1
  · by_cases hjk : j = k
    · subst hjk
      rw [va_up_self] at hj
      cases hj
      exact he
    · rw [va_up_ne _ _ hjk] at hj
      refine (hR.2.2.2 j d hj).kept (oq _ ?_)
      show rho G j ≠ rho G k
      rw [rho_pos G hk0, rho_pos G (hR.ne hj)]
      omega
theorem HR.push {G : GW} {h : AH} {n : Nat} {H H1 : Heap} (hR : HR G h n H) (c : AC) (he : va_at (gD G) vwCl (gN G + n, shc G c) H1) (z : H1.size = H.size + 1) (oq : ∀ q : Nat, q < H.size → H1[q]? = H[q]?) : HR G (va_up h n (some c)) (n + 1) H1 := by
  have hn0 : n ≠ 0 := by have := hR.2.1; omega
  refine ⟨by rw [z, hR.1]; omega, by omega, ?_, fun j d hj => ?_⟩
  · rw [va_up_ne _ _ (Ne.symm hn0)]; exact hR.2.2.1
  · by_cases hjk : j = n
    · subst hjk
      rw [va_up_self] at hj
      cases hj
      rw [rho_pos G hn0]
      exact he
    · rw [va_up_ne _ _ hjk] at hj
      exact (hR.2.2.2 j d hj).kept (oq _ (hR.2.2.2 j d hj).lt)
/-- words that don't ride in the lists -/
def exw : Cond → Bool
  | .fieldLinkNest _ _ _ _ _ _ => true
  | .methodLinkNest _ _ _ _ => true
  | .castable _ _ => true
  | .declares _ => true
  | _ => false
theorem exw_on {w : Cond} (h : exw w = true) : w.onTables = true := by
  cases w <;> first | rfl | (exact absurd h (by decide)) | (simp [exw] at h)
theorem exw_warm {w : Cond} (h : exw w = true) {s U : State} (hW : s.WarmedH U.vm) (hZ : va_Nw w s) : va_Nw w U := by
  cases w with
  | fieldLinkNest a i b n d e => exact va_Nw.warmF hW hZ
  | methodLinkNest a i x e => exact va_Nw.warmM hW hZ
  | castable C T => exact va_Nw.warmC hW hZ
  | declares x => exact va_Nw.warmD hW hZ
  | _ => simp [exw] at h
/-- the list methods that are called through an interface -/
abbrev fwl : List (String × MethodName × MethodName) := [(RJ2, ⟨"java/util/List", "size", "()I"⟩, yJ2_size), (RJ2, ⟨"java/util/List", "add", "(Ljava/lang/Object;)Z"⟩, yJ2_add), (RJ2, ⟨"java/util/List", "get", "(I)Ljava/lang/Object;"⟩, yJ2_get), (RJ2, ⟨"java/util/List", "clear", "()V"⟩, yJ2_clear), (RJ2, ⟨"java/util/List", "addAll", "(Ljava/util/Collection;)Z"⟩, yJ2_addAll), (RJ2, ⟨"java/util/Collection", "toArray", "()[Ljava/lang/Object;"⟩, yJ2_toArray)]
theorem fwl_ok : ∀ q ∈ fwl, q.2.1.cls ≠ "java/lang/invoke/MethodHandle" ∧ q.2.1.cls ≠ "java/lang/invoke/VarHandle" := by decide +kernel
/-- what is no kind of what -/
abbrev ncl : List (String × String) := [("[I", "[B"), ("[S", "[B"), ("[B", "[S"), ("[I", "[S"), ("[B", "[I"), ("[S", "[I"), ("java/lang/ClassCastException", "java/lang/NullPointerException"), ("java/lang/ArrayIndexOutOfBoundsException", "java/lang/NullPointerException"), ("java/lang/ArrayIndexOutOfBoundsException", "java/lang/ClassCastException"), ("java/lang/ArrayStoreException", "java/lang/NullPointerException"), ("java/lang/ArrayIndexOutOfBoundsException", "java/lang/ArrayStoreException")]
/-- what of the start's tables and statics every method is told beside the lists -/
def EX (G : GW) (U : State) : Prop := (∀ w ∈ lw_tbl, exw w = true → va_Nw w U) ∧ va_AO "SevenRings$Sheet" U ∧ va_AO "java/lang/Object" U ∧ (∀ q ∈ fwl, va_Fw q.1 q.2.1 q.2.2 U) ∧ gd G ≤ gN G ∧
  va_Z "java/util/ArrayList" "DEFAULTCAPACITY_EMPTY_ELEMENTDATA" "[Ljava/lang/Object;" (.ref (gd G)) (gW G) U U.heap ∧
  (∃ cell : Cell, U.heap[gd G]? = some cell ∧ cell.cls = gA G 5 ∧ cell.vm ≠ .unknown ∧ (∀ k, cell.vm ≠ .statics k) ∧ cell.slots.size = 0) ∧
  va_Z "java/lang/Throwable" "UNASSIGNED_STACK" "[Ljava/lang/StackTraceElement;" (va_rf (gU G 1)) (gW G) U U.heap ∧ va_Z "java/lang/Throwable" "SUPPRESSED_SENTINEL" "Ljava/util/List;" (va_rf (gU G 2)) (gW G) U U.heap ∧
  va_Mi "[Ljava/lang/Object;" (gM G) U ∧ (∀ q ∈ ncl, va_Nc q.1 q.2 U) ∧ modulesRight_1 U = true ∧ va_Nw (.laysStatic "java/lang/Throwable" "UNASSIGNED_STACK" "[Ljava/lang/StackTraceElement;") U ∧ va_Nw (.laysStatic "java/lang/Throwable" "SUPPRESSED_SENTINEL" "Ljava/util/List;") U
theorem ls_moved {O f d : String} {v : Value} {A : Nat → Prop} {s U : State} (hvm : s.vm.Alike U.vm) (hq : ∀ a : Nat, a < s.heap.size → ¬ A a → U.heap[a]? = s.heap[a]?) (hz : va_Z O f d v A s s.heap) (h : va_Nw (.laysStatic O f d) s) : va_Nw (.laysStatic O f d) U := by
  obtain ⟨c, k, i, fd, a, cell, hc, hi, hst, ha, hcell, hs, hcls, hlt, hty⟩ := Cond.laysStatic_spec h
  obtain ⟨cf, kf, fi, f2, a2, cell2, z1, z2, z3, z4, z5, z6, z7, z8⟩ := hz
  cases hi.symm.trans z1
  cases ha.symm.trans z4
  have e : U.heap[a]? = some cell := (hq a (Array.getElem?_eq_some_iff.mp hcell).1 z8).trans hcell
  obtain ⟨k', hi', hek⟩ := State.fieldFound?_setVm hvm hi
  exact Cond.laysStatic_of (s := U) (by rw [hvm.findClass]; exact hc) hi' hst (by rw [hek]; exact ha) e hs hcls hlt (by rw [hek]; exact hty)
theorem EX.moved {G : GW} {s U : State} (hW : s.WarmedH U.vm) (hq : ∀ a : Nat, a < s.heap.size → ¬ gW G a → U.heap[a]? = s.heap[a]?) (h : EX G s) : EX G U := by
  obtain ⟨h1, h2, h3, h4, h5, h6, ⟨cell, c1, c2⟩, h8, h9, h10, h11, h12, h13, h14⟩ := h
  refine ⟨fun w hw he => exw_warm he hW (h1 w hw he), h2.moved hW.alike, h3.moved hW.alike, fun q hm => (h4 q hm).moved (fwl_ok q hm) hW.alike, h5, (h6.kept hq).moved hW.alike, ⟨cell, ?_, c2⟩, (h8.kept hq).moved hW.alike, (h9.kept hq).moved hW.alike, h10.moved hW.alike, fun q hm => (h11 q hm).moved hW.alike, (by
    unfold modulesRight_1
    rw [hW.1]
    exact h12), ls_moved hW.alike hq h8 h13, ls_moved hW.alike hq h9 h14⟩
  rw [hq _ (Array.getElem?_eq_some_iff.mp c1).1 (by show ¬ gN G < gd G; omega)]
  exact c1
def FC (ci : Nat) (C : String) (T : u_T) (N : Nat) (ty : Nat → FieldType) : Prop := vwCl[ci]? = some (C, T, N) ∧ (∀ w ∈ u_ws C T N, w ∈ lw_all) ∧ (∀ k, k < N → parseFieldDescriptor (T k).2.2.1 = some (ty k)) ∧ (∀ a, a < N → ∀ b, b < N → a ≠ b → (T a).2.1 ≠ (T b).2.1)
theorem fcX0 : FC 0 RX0 TX0 21 tyX0 := ⟨rfl, in_X0, tyX0_ok, nmX0⟩
theorem fcX1 : FC 1 RX1 TX1 8 tyX1 := ⟨rfl, in_X1, tyX1_ok, nmX1⟩
theorem fcX2 : FC 2 RX2 TX2 7 tyX2 := ⟨rfl, in_X2, tyX2_ok, nmX2⟩
theorem fcX3 : FC 3 RX3 TX3 1 tyX3 := ⟨rfl, in_X3, tyX3_ok, nmX3⟩
theorem fcX4 : FC 4 RX4 TX4 42 tyX4 := ⟨rfl, in_X4, tyX4_ok, nmX4⟩
theorem fcX6 : FC 5 RX6 TX6 2 tyX6 := ⟨rfl, in_X6, tyX6_ok, nmX6⟩
theorem fcX7 : FC 6 RX7 TX7 5 tyX7 := ⟨rfl, in_X7, tyX7_ok, nmX7⟩
theorem fcX8 : FC 7 RX8 TX8 2 tyX8 := ⟨rfl, in_X8, tyX8_ok, nmX8⟩
theorem fcX9 : FC 8 RX9 TX9 5 tyX9 := ⟨rfl, in_X9, tyX9_ok, nmX9⟩
theorem fcX10 : FC 9 RX10 TX10 2 tyX10 := ⟨rfl, in_X10, tyX10_ok, nmX10⟩
theorem fcX11 : FC 10 RX11 TX11 1 tyX11 := ⟨rfl, in_X11, tyX11_ok, nmX11⟩
theorem fcX12 : FC 11 RX12 TX12 2 tyX12 := ⟨rfl, in_X12, tyX12_ok, nmX12⟩
theorem fcJ2 : FC 12 RJ2 TJ2 3 tyJ2 := ⟨rfl, in_J2, tyJ2_ok, nmJ2⟩
/-! locals -/
def lvh (G : GW) (ls : Array Slot) (nL : Nat) (L : List (Option Value)) : Prop := ls.size = nL ∧ lv_wf ls ∧ ∀ (i : Nat) (v : Value), L[i]? = some (some v) → ls[i]? = some (.val (shv G v))
def lvl (G : GW) : List (Option Value) → Nat → List (Nat × Value)
  | [], _ => []
  | none :: L, i => lvl G L (i + 1)
  | some v :: L, i => (i, shv G v) :: lvl G L (i + 1)
theorem lvl_mem {G : GW} : ∀ (L : List (Option Value)) (i : Nat) (q : Nat × Value), q ∈ lvl G L i → ∃ (k : Nat) (v : Value), L[k]? = some (some v) ∧ q = (i + k, shv G v)
  | [], i, q, h => by simp [lvl] at h
  | none :: L, i, q, h => by
    obtain ⟨k, v, h1, h2⟩ := lvl_mem L (i + 1) q h
    exact ⟨k + 1, v, h1, by rw [h2]; congr 1; omega⟩
  | some w :: L, i, q, h => by
    rcases List.mem_cons.mp h with e | e
    · exact ⟨0, w, rfl, e⟩
    · obtain ⟨k, v, h1, h2⟩ := lvl_mem L (i + 1) q e
      exact ⟨k + 1, v, h1, by rw [h2]; congr 1; omega⟩
theorem lvl_of {G : GW} : ∀ (L : List (Option Value)) (i k : Nat) (v : Value), L[k]? = some (some v) → (i + k, shv G v) ∈ lvl G L i
  | [], i, k, v, h => by simp at h
  | none :: L, i, 0, v, h => by simp at h
  | none :: L, i, k + 1, v, h => by
    have := lvl_of (G := G) L (i + 1) k v h
    rw [show i + (k + 1) = i + 1 + k by omega]
    exact this
  | some w :: L, i, 0, v, h => by
    simp at h
    subst h
    exact List.mem_cons_self
  | some w :: L, i, k + 1, v, h => by
    have := lvl_of (G := G) L (i + 1) k v h
    rw [show i + (k + 1) = i + 1 + k by omega]
    exact List.mem_cons_of_mem _ this
theorem lvh.has {G : GW} {ls : Array Slot} {nL : Nat} {L : List (Option Value)} (h : lvh G ls nL L) : lv_has ls nL (lvl G L 0) := by
  refine ⟨h.1, h.2.1, fun q hq => ?_⟩
  obtain ⟨k, v, h1, h2⟩ := lvl_mem L 0 q hq
  rw [h2]
  simpa using h.2.2 k v h1
theorem shv_cat (G : GW) (v : Value) : (shv G v).category = v.category := by
  cases v with
  | retAddr x =>
    cases x with
    | zero => rfl
    | succ k =>
      show (va_rf (gU G (k + 1))).category = 1
      cases gU G (k + 1) <;> rfl
  | _ => rfl
/-- a store of a value of one slot, of two -/
def clr (L : List (Option Value)) : Nat → List (Option Value)
  | 0 => L
  | i + 1 => match L[i]? with
    | some (some (.long _)) => L.set i none
    | some (some (.double _)) => L.set i none
    | _ => L
def st1 (L : List (Option Value)) (i : Nat) (v : Value) : List (Option Value) := (clr L i).set i (some v)
def st2 (L : List (Option Value)) (i : Nat) (v : Value) : List (Option Value) := ((clr L i).set i (some v)).set (i + 1) none
theorem clr_get {L : List (Option Value)} {i j : Nat} {w : Value} (h : (clr L i)[j]? = some (some w)) : L[j]? = some (some w) ∧ ¬ (j + 1 = i ∧ w.category = 2) := by
  cases i with
  | zero => exact ⟨h, fun q => by omega⟩
  | succ i =>
    simp only [clr] at h
    by_cases hj : j = i
    · subst hj
      cases hL : L[j]? with
      | none => rw [hL] at h; simp [hL] at h
      | some x =>
        rw [hL] at h
        cases x with
        | none => simp [hL] at h
        | some x =>
          have hlt := (List.getElem?_eq_some_iff.mp hL).1
          cases x <;> first | (dsimp only at h; rw [List.getElem?_set_self hlt] at h; cases h) | (dsimp only at h; rw [hL] at h; cases h; exact ⟨rfl, fun q => by simp [Value.category] at q⟩)
    · have hn : ¬ (j + 1 = i + 1 ∧ w.category = 2) := fun q => hj (by omega)
      refine ⟨?_, hn⟩
      cases hL : L[i]? with
      | none => rw [hL] at h; exact h
      | some x =>
        rw [hL] at h
        cases x with
        | none => exact h
        | some x =>
          cases x <;> first | exact h | (dsimp only at h; rw [List.getElem?_set_ne (fun q => hj q.symm)] at h; exact h)
theorem lvh_st1 {G : GW} {ls : Array Slot} {nL : Nat} {L : List (Option Value)} {i : Nat} {v : Value} (h : lv_has ls nL ((i, shv G v) :: (lvl G L 0).filter (fun q => !(q.1 == i) && !(q.1 + 1 == i && q.2.category == 2)))) : lvh G ls nL (st1 L i v) := by
  refine ⟨h.1, h.2.1, fun j w hj => ?_⟩
  unfold st1 at hj
  by_cases hji : j = i
  · subst hji
    have : w = v := by
      rw [List.getElem?_set] at hj
      simp at hj
      exact hj.2.symm
    subst this
    exact h.2.2 (j, shv G w) List.mem_cons_self
  · rw [List.getElem?_set_ne (fun q => hji q.symm)] at hj
    obtain ⟨h1, h2⟩ := clr_get hj
    have hm := lvl_of (G := G) L 0 j w h1
    rw [Nat.zero_add] at hm
    refine h.2.2 (j, shv G w) (List.mem_cons_of_mem _ (List.mem_filter.mpr ⟨hm, ?_⟩))
    simp only [shv_cat, Bool.and_eq_true, Bool.not_eq_true', Bool.and_eq_false_iff, beq_eq_false_iff_ne]
    refine ⟨hji, ?_⟩
    by_cases hq : j + 1 = i
    · exact Or.inr (fun q => h2 ⟨hq, q⟩)
    · exact Or.inl hq
theorem lvh_st2 {G : GW} {ls : Array Slot} {nL : Nat} {L : List (Option Value)} {i : Nat} {v : Value} (h : lv_has ls nL ((i, shv G v) :: (lvl G L 0).filter (fun q => !(q.1 == i) && (!(q.1 == i + 1) && !(q.1 + 1 == i && q.2.category == 2))))) : lvh G ls nL (st2 L i v) := by
  refine ⟨h.1, h.2.1, fun j w hj => ?_⟩
  unfold st2 at hj
  by_cases hj1 : j = i + 1
  · subst hj1
    rw [List.getElem?_set] at hj
    simp at hj
  · rw [List.getElem?_set_ne (fun q => hj1 q.symm)] at hj
    by_cases hji : j = i
    · subst hji
      have : w = v := by
        rw [List.getElem?_set] at hj
        simp at hj
        exact hj.2.symm
      subst this
      exact h.2.2 (j, shv G w) List.mem_cons_self
    · rw [List.getElem?_set_ne (fun q => hji q.symm)] at hj
      obtain ⟨h1, h2⟩ := clr_get hj
      have hm := lvl_of (G := G) L 0 j w h1
      rw [Nat.zero_add] at hm
      refine h.2.2 (j, shv G w) (List.mem_cons_of_mem _ (List.mem_filter.mpr ⟨hm, ?_⟩))
      simp only [shv_cat, Bool.and_eq_true, Bool.not_eq_true', Bool.and_eq_false_iff, beq_eq_false_iff_ne]
      refine ⟨hji, hj1, ?_⟩
      by_cases hq : j + 1 = i
      · exact Or.inr (fun q => h2 ⟨hq, q⟩)
      · exact Or.inl hq
/-- the locals with which a method begins -/
def lvA : List Value → List (Option Value)
  | [] => []
  | .long x :: vs => some (.long x) :: none :: lvA vs
  | .double x :: vs => some (.double x) :: none :: lvA vs
  | v :: vs => some v :: lvA vs
theorem lvA_mem {G : GW} : ∀ (vs : List Value) (i k : Nat) (v : Value), (lvA vs)[k]? = some (some v) → (i + k, shv G v) ∈ lv_args i (shs G vs)
  | [], i, k, v, h => by simp [lvA] at h
  | w :: vs, i, k, v, h => by
    have one : ∀ (w : Value), w.category = 1 → (some w :: lvA vs)[k]? = some (some v) → (i + k, shv G v) ∈ lv_args i (shv G w :: shs G vs) := by
      intro w hw h
      show _ ∈ (i, shv G w) :: lv_args _ _
      rw [shv_cat, hw, if_neg (by decide)]
      cases k with
      | zero => simp at h; subst h; exact List.mem_cons_self
      | succ k =>
        have := lvA_mem (G := G) vs (i + 1) k v h
        rw [show i + (k + 1) = i + 1 + k by omega]
        exact List.mem_cons_of_mem _ this
    have two : ∀ (w : Value), w.category = 2 → (some w :: none :: lvA vs)[k]? = some (some v) → (i + k, shv G v) ∈ lv_args i (shv G w :: shs G vs) := by
      intro w hw h
      show _ ∈ (i, shv G w) :: lv_args _ _
      rw [shv_cat, hw, if_pos rfl]
      match k, h with
      | 0, h => simp at h; subst h; exact List.mem_cons_self
      | 1, h => simp at h
      | k + 2, h =>
        have := lvA_mem (G := G) vs (i + 2) k v h
        rw [show i + (k + 2) = i + 2 + k by omega]
        exact List.mem_cons_of_mem _ this
    cases w with
    | long x => exact two _ rfl h
    | double x => exact two _ rfl h
    | int x => exact one _ rfl h
    | float x => exact one _ rfl h
    | null => exact one _ rfl h
    | ref x => exact one _ rfl h
    | retAddr x => exact one _ rfl h
def padL (n : Nat) (L : List (Option Value)) : List (Option Value) := L ++ List.replicate (n - L.length) none
theorem padL_get {n : Nat} {L : List (Option Value)} {k : Nat} {v : Value} (h : (padL n L)[k]? = some (some v)) : L[k]? = some (some v) := by
  unfold padL at h
  by_cases hk : k < L.length
  · rw [List.getElem?_append_left hk] at h; exact h
  · rw [List.getElem?_append_right (by omega), List.getElem?_replicate] at h
    split at h <;> simp at h
/-! the method's walk -/
def QW (G : GW) (Q : Option Value → AH → Nat → Prop) : Array Value → State → Outcome → State → Prop := fun _ st o t => (∃ (r : Option Value) (h : AH) (n : Nat), o = .returned (r.map (shv G)) ∧ Q r h n ∧ HR G h n t.heap) ∧ va_F (gW G) st t
def PW (G : GW) (as : List Value) (h : AH) (n : Nat) : Array Value → State → Prop := va_Pc (shs G as) (fun U => HR G h n U.heap ∧ va_K (gD G) vwCl (gT G) U ∧ EX G U)
abbrev rmW (fr mc ms : Nat) : Room := { frames := fr, cells := mc, slots := ms, locals := 40 * fr }
/-- the contract: from any state whose own cells are h (the next number n), y called with 'as' returns r, its cells are h' (next n'), and Q r h' n' -/
def AM (l : Launch) (G : GW) (y : MethodName) (cc : ByteArray) (nL : Nat) (ret : Option FieldType) (fr mc ms : Nat) (as : List Value) (h : AH) (n : Nat) (Q : Option Value → AH → Nat → Prop) : Prop :=
  Met l y (ws_ y cc nL ret) (rmW fr mc ms) (PW G as h n) (QW G Q) mc ms (gW G)
/-- the handlers of a method: start, end, handler, class; all but five have none -/
def hdl (y : MethodName) : List (Nat × Nat × Nat × Nat) :=
  if y = yX0_rings then [(36, 41, 44, 30)] else if y = yX0_sea then [(21, 25, 28, 30)] else if y = yX0_sheet then [(22, 55, 58, 365)]
  else if y = yX0_item then [(16, 100, 103, 371), (16, 100, 108, 373), (16, 100, 113, 375)] else if y = yX0_copy then [(16, 42, 45, 371), (16, 42, 50, 377), (16, 42, 55, 379)] else []
def hxT (c : Code) : List (Nat × Nat × Nat × Nat) := c.exceptionTable.toList.map (fun h => (h.startPc, h.endPc, h.handlerPc, h.catchType))
/-- the methods that may throw on: of their answers a return address x + 1 says that the cell x was thrown -/
def thr (y : MethodName) : Bool := decide (y = yX0_readDigit) || decide (y = yX0_readFar) || decide (y = yX0_readRings) || decide (y = yX0_readSea)
def nrt : Option Value → Bool
  | some (.retAddr _) => false
  | _ => true
def TQ (G : GW) (Q : Option Value → AH → Nat → Prop) (s : State) (mc ms : Nat) (o : Outcome) (t : State) : Prop :=
  ∃ (x : Nat) (h : AH) (n : Nat), o = .threw (rho G x) ∧ Q (some (.retAddr (x + 1))) h n ∧ HR G h n t.heap ∧ va_F (gW G) s t ∧ ∃ L : List Loc, s.WarmedH t.vm ∧ s.sameButNew ({ t with vm := s.vm } : State) L mc ms ∧ ∀ q ∈ L, gW G q.base
/-- how a walk ends: it returns, or (some methods) throws -/
def MQE (y : MethodName) (below : List Frame) (G : GW) (Q : Option Value → AH → Nat → Prop) (a : Array Value) (s : State) (mc ms : Nat) : State → Prop := fun t =>
  MQ below (QW G (fun r h n => Q r h n ∧ nrt r = true)) a s mc ms (gW G) t ∨ (thr y = true ∧ ∃ o : Outcome, t.status = .running ∧ Ended t below o ∧ TQ G Q s mc ms o t)
theorem W_mono {p : Program} {l : Launch} {e : Env} {R : Room} {s : State} {m : MethodId} {args : Array Value} {below : List Frame} {meth : Method} {c : Code} {H : Heap} {locs : List Loc} {cells slots : Nat} {P Q : State → Prop} {g : JFrame} (hq : ∀ t, P t → Q t) (k : W p l e R s m args below meth c H locs cells slots P g) : W p l e R s m args below meth c H locs cells slots Q g := by
  intro T hT X
  obtain ⟨t, a, b⟩ := k T hT X
  exact ⟨t, a, hq t b⟩
theorem MQE.ret {y : MethodName} {below : List Frame} {G : GW} {Q : Option Value → AH → Nat → Prop} {a : Array Value} {s : State} {mc ms : Nat} (hx : thr y = false) {t : State} (h : MQE y below G Q a s mc ms t) : MQ below (QW G Q) a s mc ms (gW G) t := by
  rcases h with h | h
  · obtain ⟨o, h1, h2, ⟨⟨r, h', n, h3, h4, h5⟩, h6⟩, h7⟩ := h
    exact ⟨o, h1, h2, ⟨⟨r, h', n, h3, h4.1, h5⟩, h6⟩, h7⟩
  · rw [hx] at h
    exact absurd h.1 (by decide)
def EC (G : GW) (y : MethodName) (cc : ByteArray) (nL : Nat) (ret : Option FieldType) (p : Program) (s : State) (m : MethodId) (args : Array Value) (meth : Method) (c : Code) : Prop :=
  CallFix p m c cc nL s args lw_all y.cls ∧ meth.sig.returnType = ret ∧ meth.locks = false ∧ meth.name = y.name ∧ va_K (gD G) vwCl (gT G) s ∧ EX G s ∧ gN G < s.heap.size ∧ hxT c = hdl y
def EW (l : Launch) (G : GW) (y : MethodName) (cc : ByteArray) (nL : Nat) (ret : Option FieldType) (fr mc ms : Nat) (Q : Option Value → AH → Nat → Prop) (k sl : Nat) (h : AH) (n : Nat) (pc : Nat) (L : List (Option Value)) (st : List Value) : Prop :=
  ∀ (p : Program) (e : Env) (s : State) (m : MethodId) (args : Array Value) (below : List Frame) (meth : Method) (c : Code), EC G y cc nL ret p s m args meth c → ∀ (H : Heap) (locs : List Loc) (ls : Array Slot), HR G h n H → va_S (gW G) s.heap H locs → lvh G ls nL L →
    W p l e (rmW fr mc ms) s m args below meth c H locs k sl (MQE y below G Q args s mc ms) (F0 m pc ls (shs G st))
theorem AM.of {l : Launch} {G : GW} {y : MethodName} {cc : ByteArray} {nL : Nat} {ret : Option FieldType} {fr mc ms : Nat} {as : List Value} {h : AH} {n : Nat} {Q : Option Value → AH → Nat → Prop} {L : List (Option Value)} (hy : plainName y.cls = true) (hlen : (lg_sl (shs G as)).length ≤ nL) (hL : padL nL (lvA as) = L)
    (kk : EW l G y cc nL ret fr mc ms Q 0 0 h n 0 L []) (hh : hdl y = [] := by decide +kernel) (hx : thr y = false := by decide +kernel) : AM l G y cc nL ret fr mc ms as h n Q := by
  refine Met.ofW (cc := cc) (maxL := nL) (ret := ret) hy rfl ?_
  intro p e s m args below meth c s₁ B hml hv
  obtain ⟨rfl, hR, hK, hX⟩ := hv
  have hts := atoms_spec (ws := ws_ y cc nL ret) B.pre
  have hnh := B.noHandlers (hts _ List.mem_cons_self)
  have hts : ∀ w ∈ lw_all, w.before _ s = true := fun w h => hts w (List.mem_cons_of_mem _ h)
  have hown : s.vm.findClass y.cls = some m.cls := findClass_of_methodNamed B.named
  have hl := lv_entry (shs G as) (n := nL) hlen
  rw [lg_entry_eq]
  refine W_mono (fun t ht => MQE.ret hx ht) (kk p e s m _ below meth c ⟨⟨B.exec, B.bytes, hml, hown, hts⟩, B.returns, B.notSynchronized, (name_of_methodNamed B.named B.method).1, hK, hX, ?_, ?_⟩ s.heap [] _ hR va_S.rf ⟨hl.1, hl.2.1, fun i v hi => ?_⟩)
  · rw [hR.1]; have := hR.2.1; omega
  · rw [hh]
    unfold hxT
    rw [Array.isEmpty_iff.mp hnh]
    rfl
  · rw [← hL] at hi
    have hm := lvA_mem (G := G) as 0 i v (padL_get hi)
    rw [Nat.zero_add] at hm
    exact hl.2.2 _ hm
