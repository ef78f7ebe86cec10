-- Obj fields dict_keys(['cls', 'fun', 'sname', 'refs', 'extra', 'ups'])
/-! the component: readFar -/
set_option maxRecDepth 100000
def frP (p : Int32 × Nat × Int32) : Int32 × Nat × Int32 := (if p.1 < 0 then -4 else p.1, p.2.1, p.2.2)
theorem inI_57 {c : Int32} (h : ¬ b2i (inI c 48 57) = 0) : ∃ d, d ≤ 9 ∧ c = nI (48 + d) := by
  obtain ⟨j, h1, h2, rfl⟩ := inI_nat (c := c) (lo := 48) (hi := 57) (by omega) (by omega) (b2i_1.mp h)
  exact ⟨j - 48, by omega, by congr 1; omega⟩
theorem num_x {q d : Nat} : (10 : Int32) * nI q + nI (48 + d) - 48 = nI (10 * q + d) := by
  rw [show (10 : Int32) = nI 10 from rfl, pk_mul, nI_add, show (48 : Int32) = nI 48 from rfl, show 10 * q + (48 + d) = (10 * q + d) + 48 by omega, nI_sub2]
theorem num_m {a d : Nat} (ha : a ≤ 9999) : nmV (nI a) (nI (48 + d)) = nI (if a ≤ 999 then 10 * a + d else a) := by
  unfold nmV
  by_cases c : a ≤ 999
  · rw [if_pos (show nI a ≤ 999 from (nI_leI (b := 999) (by omega) (by omega)).mpr c), if_pos c, num_x]
  · rw [if_neg (fun q : nI a ≤ 999 => c ((nI_leI (b := 999) (by omega) (by omega)).mp q)), if_neg c]
theorem num_n {y : Nat} (hy : y ≤ 9999) : (if nI y < 999 then nI y else (999 : Int32)) = nI (min 999 y) := by
  by_cases c : y < 999
  · rw [if_pos (show nI y < 999 from (nI_ltI (b := 999) (by omega) (by omega)).mpr c), Nat.min_eq_right (by omega)]
  · rw [if_neg (fun q : nI y < 999 => c ((nI_ltI (b := 999) (by omega) (by omega)).mp q)), Nat.min_eq_left (by omega)]; rfl
theorem num_s {a d : Nat} (ha : a ≤ 9999) (hd : d ≤ 9) : min 999 (10 * min 999 a + d) = min 999 (if a ≤ 999 then 10 * a + d else a) ∧ (if a ≤ 999 then 10 * a + d else a) ≤ 9999 := by
  by_cases c : a ≤ 999
  · rw [if_pos c, Nat.min_eq_right c]; exact ⟨rfl, by omega⟩
  · rw [if_neg c, Nat.min_eq_left (show 999 ≤ a by omega)]; exact ⟨by omega, by omega⟩
theorem nmL_ge {T : Nat → Int32} : ∀ f v k, k ≤ (nmL T f v k).2
  | 0, v, k => Nat.le_refl _
  | f + 1, v, k => by
    unfold nmL
    by_cases c : b2i (inL (T k).toInt64 48 57) = 0
    · rw [if_pos c]; exact Nat.le_refl k
    · rw [if_neg c]; have := nmL_ge (T := T) f (nmV v (T k)) (k + 1); omega
set_option maxHeartbeats 600000 in
theorem lx_readFar {l : Launch} {G : GW} {h : AH} {n : Nat} {s : Nat → Int32} {T : Nat → Int32} {tp : Nat} {p0 : Int32} (x12 : h 12 = some (BA 60 T)) (h3 : s 3 = nI tp) (htp : tp ≤ 60) {Q : Option Value → AH → Nat → Prop} {first V : Int32} {K : Nat} (kk : ∀ b : Nat, b ≤ 9999 → V = nI b → EW l G yX0_readFar cX0_readFar 3 (some .int) 2 0 0 Q 0 0 (hov h [(1, OB 0 (XOf (upd s 4 (nI K)))), (11, OB 2 [.null, .null, .null, .null, .null, .int 0, .int p0])]) n 86 [some (.ref 1), some (.int first), some (.int (nI (min 999 b)))] []) : ∀ (f k : Nat) (a : Nat), k + f = tp → a ≤ 9999 → nmL T f (nI a) k = (V, K) → EW l G yX0_readFar cX0_readFar 3 (some .int) 2 0 0 Q 0 0 (hov h [(1, OB 0 (XOf (upd s 4 (nI k)))), (11, OB 2 [.null, .null, .null, .null, .null, .int 0, .int p0])]) n 19 [some (.ref 1), some (.int first), some (.int (nI (min 999 a)))] [] := by
  intro f
  induction f with
  | zero =>
    intro k a hk ha hv
    refine ew_aload_n (t := 20) dX0_readFar_19 rfl rfl rfl ?_
    refine ew_get (t := 23) (j := 4) (v := .int (nI k)) fcX0 rfl (Nat.le_of_ble_eq_true rfl) q259 rfl dX0_readFar_20 rfl ?_
    refine ew_aload_n (t := 24) dX0_readFar_23 rfl rfl rfl ?_
    refine ew_get (t := 27) (j := 3) (v := .int (s 3)) fcX0 rfl (Nat.le_of_ble_eq_true rfl) q258 rfl dX0_readFar_24 rfl ?_
    rw [h3]
    refine ew_icmp_ge (t := 86) (t2 := 30) dX0_readFar_27 rfl rfl (fun c_27 => ?_) (fun c_27 => ?_)
    · cases hv
      exact kk a ha rfl
    · exact absurd c_27 (by rw [show k = tp by omega]; exact not_not_intro (Int32.le_refl _))
  | succ f ih =>
    intro k a hk ha hv
    refine ew_aload_n (t := 20) dX0_readFar_19 rfl rfl rfl ?_
    refine ew_get (t := 23) (j := 4) (v := .int (nI k)) fcX0 rfl (Nat.le_of_ble_eq_true rfl) q259 rfl dX0_readFar_20 rfl ?_
    refine ew_aload_n (t := 24) dX0_readFar_23 rfl rfl rfl ?_
    refine ew_get (t := 27) (j := 3) (v := .int (s 3)) fcX0 rfl (Nat.le_of_ble_eq_true rfl) q258 rfl dX0_readFar_24 rfl ?_
    rw [h3]
    refine ew_icmp_ge (t := 86) (t2 := 30) dX0_readFar_27 rfl rfl (fun c_27 => ?_) (fun c_27 => ?_)
    · exact absurd c_27 (nI_ge (by omega) (by omega))
    · refine ew_aload_n (t := 31) dX0_readFar_30 rfl rfl rfl ?_
      refine ew_get (t := 34) (j := 2) (v := .ref 12) fcX0 rfl (Nat.le_of_ble_eq_true rfl) q257 rfl dX0_readFar_31 rfl ?_
      refine ew_aload_n (t := 35) dX0_readFar_34 rfl rfl rfl ?_
      refine ew_get (t := 38) (j := 4) (v := .int (nI k)) fcX0 rfl (Nat.le_of_ble_eq_true rfl) q259 rfl dX0_readFar_35 rfl ?_
      refine ew_bald (t := 39) (j := k) (N := 60) x12 (vp_in_nI (by omega) (by omega)) (nI_clamp (by omega)) dX0_readFar_38 rfl ?_
      refine ew_bipush (t := 41) (v := 48) dX0_readFar_39 (by decide) rfl ?_
      refine ew_bipush (t := 43) (v := 57) dX0_readFar_41 (by decide) rfl ?_
      refine ew_callS (t := 46) (As := [_, _, _]) (ax_isIn _ _ _) (lw_S q330 q331 q51 q332) naX0_isIn dX0_readFar_43 rfl (Nat.le_of_ble_eq_true rfl) (Nat.le_of_ble_eq_true rfl) (Nat.le_refl _) (Nat.le_refl _) (Nat.le_of_ble_eq_true rfl) rfl (qi ?_)
      refine ew_if_eq (t := 86) (t2 := 49) dX0_readFar_46 rfl rfl (fun c_46 => ?_) (fun c_46 => ?_)
      · rw [nmL, show inL (T k).toInt64 48 57 = inI (T k) 48 57 from inL_I (T k) 48 57, if_pos c_46] at hv
        cases hv
        exact kk a ha rfl
      · obtain ⟨d, hd, ed⟩ := inI_57 c_46
        refine ew_sipush (t := 52) (v := 999) dX0_readFar_49 (by decide) rfl ?_
        refine ew_bipush (t := 54) (v := 10) dX0_readFar_52 (by decide) rfl ?_
        refine ew_iload_n (t := 55) dX0_readFar_54 rfl rfl rfl ?_
        refine ew_imul (t := 56) dX0_readFar_55 rfl ?_
        refine ew_aload_n (t := 57) dX0_readFar_56 rfl rfl rfl ?_
        refine ew_get (t := 60) (j := 2) (v := .ref 12) fcX0 rfl (Nat.le_of_ble_eq_true rfl) q257 rfl dX0_readFar_57 rfl ?_
        refine ew_aload_n (t := 61) dX0_readFar_60 rfl rfl rfl ?_
        refine ew_get (t := 64) (j := 4) (v := .int (nI k)) fcX0 rfl (Nat.le_of_ble_eq_true rfl) q259 rfl dX0_readFar_61 rfl ?_
        refine ew_bald (t := 65) (j := k) (N := 60) x12 (vp_in_nI (by omega) (by omega)) (nI_clamp (by omega)) dX0_readFar_64 rfl ?_
        refine ew_iadd (t := 66) dX0_readFar_65 rfl ?_
        refine ew_bipush (t := 68) (v := 48) dX0_readFar_66 (by decide) rfl ?_
        refine ew_isub (t := 69) dX0_readFar_68 rfl ?_
        rw [ed, num_x]
        refine ew_mmin (t := 72) q384 q385 q62 q386 dX0_readFar_69 (Nat.le_of_ble_eq_true rfl) (Nat.le_refl _) (Nat.le_refl _) (Nat.le_of_ble_eq_true rfl) rfl ?_
        rw [num_n (by omega), (num_s ha hd).1]
        refine ew_istore_n (t := 73) (L' := [some (.ref 1), some (.int first), some (.int (nI (min 999 (if a ≤ 999 then 10 * a + d else a))))]) dX0_readFar_72 rfl (Nat.le_of_ble_eq_true rfl) rfl rfl ?_
        refine ew_aload_n (t := 74) dX0_readFar_73 rfl rfl rfl ?_
        refine ew_dup (t := 75) dX0_readFar_74 rfl rfl ?_
        refine ew_get (t := 78) (j := 4) (v := .int (nI k)) fcX0 rfl (Nat.le_of_ble_eq_true rfl) q259 rfl dX0_readFar_75 rfl ?_
        refine ew_ic1 (t := 79) dX0_readFar_78 rfl ?_
        refine ew_iadd (t := 80) dX0_readFar_79 rfl ?_
        refine ew_put (t := 83) (j := 4) (fs' := XOf (upd s 4 ((nI k) + 1))) (h' := (hov h [(1, OB 0 (XOf (upd s 4 ((nI k) + 1)))), (11, OB 2 [.null, .null, .null, .null, .null, .int 0, .int p0])])) fcX0 rfl (Nat.le_of_ble_eq_true rfl) rfl q259 rfl rfl (Nat.le_of_ble_eq_true rfl) rfl dX0_readFar_80 (hov_up rfl) rfl ?_
        refine ew_goto (t := 19) dX0_readFar_83 rfl ?_
        rw [nI_1]
        rw [nmL, show inL (T k).toInt64 48 57 = inI (T k) 48 57 from inL_I (T k) 48 57, if_neg c_46, ed, num_m ha] at hv
        exact ih (k + 1) _ (by omega) (num_s ha hd).2 hv
theorem nmL_le {T : Nat → Int32} : ∀ f v k, (nmL T f v k).2 ≤ k + f
  | 0, v, k => Nat.le_refl _
  | f + 1, v, k => by
    unfold nmL
    by_cases c : b2i (inL (T k).toInt64 48 57) = 0
    · rw [if_pos c]; show k ≤ _; omega
    · rw [if_neg c]; have := nmL_le (T := T) f (nmV v (T k)) (k + 1); omega
theorem far_40 {b : Nat} (hb : b ≤ 9999) : nI (min 999 b) ≤ 40 ↔ nI b ≤ 40 := by
  rw [show (40 : Int32) = nI 40 from rfl, nI_leI (by omega) (by omega), nI_leI (by omega) (by omega)]
  omega
theorem far_m {b : Nat} (hb : b ≤ 9999) (h : nI (min 999 b) ≤ 40) : min 999 b = b := by
  have := (nI_leI (a := min 999 b) (b := 40) (by omega) (by omega)).mp h
  omega
theorem far_0 {T : Nat → Int32} {tp a : Nat} {V : Int32} {K : Nat} (hT : okT T tp) (htp : tp ≤ 60) (ha : a ≤ tp) (e : nmL T (tp - hrN T tp a) 0 (hrN T tp a) = (V, K)) (eK : K = hrN T tp a) : b2i (inL (hrC T tp (hrN T tp a)).toInt64 48 57) = 0 := by
  have hle := (hrN_le (T := T) ha).2
  refine Decidable.byContradiction (fun q => ?_)
  rcases nb_cases hT htp hle with ⟨h1, h2, -⟩ | ⟨z, h1, h2, h3, h4, h5⟩
  · rw [h2] at q; exact q (by decide)
  · have h6 : hrC T tp (hrN T tp a) = T (hrN T tp a) := if_neg (nI_ge (by omega) (by omega))
    rw [h6] at q
    obtain ⟨f, hf⟩ : ∃ f, tp - hrN T tp a = f + 1 := ⟨tp - hrN T tp a - 1, by omega⟩
    rw [hf, nmL, if_neg q] at e
    have h7 := nmL_ge (T := T) f (nmV 0 (T (hrN T tp a))) (hrN T tp a + 1)
    rw [e] at h7
    dsimp only at h7
    omega
theorem far_1 {T : Nat → Int32} {tp a : Nat} {V : Int32} {K : Nat} (hT : okT T tp) (htp : tp ≤ 60) (ha : a ≤ tp) (e : nmL T (tp - hrN T tp a) 0 (hrN T tp a) = (V, K)) (eK : ¬ K = hrN T tp a) : ¬ b2i (inL (hrC T tp (hrN T tp a)).toInt64 48 57) = 0 := by
  have hle := (hrN_le (T := T) ha).2
  intro q
  rcases nb_cases hT htp hle with ⟨h1, h2, h3⟩ | ⟨z, h1, h2, h3, h4, h5⟩
  · rw [show tp - hrN T tp a = 0 by omega] at e
    cases e
    exact eK rfl
  · have h6 : hrC T tp (hrN T tp a) = T (hrN T tp a) := if_neg (nI_ge (by omega) (by omega))
    rw [h6] at q
    obtain ⟨f, hf⟩ : ∃ f, tp - hrN T tp a = f + 1 := ⟨tp - hrN T tp a - 1, by omega⟩
    rw [hf, nmL, if_pos q] at e
    cases e
    exact eK rfl
set_option maxHeartbeats 600000 in
theorem ax_readFar {l : Launch} {G : GW} {h : AH} {n : Nat} {s : Nat → Int32} {T : Nat → Int32} {tp a : Nat} {p0 : Int32} (x12 : h 12 = some (BA 60 T)) (h3 : s 3 = nI tp) (h4 : s 4 = nI a) (ha : a ≤ tp) (htp : tp ≤ 60) (hT : okT T tp) : AT l G yX0_readFar cX0_readFar 3 (some .int) 2 0 0 [.ref 1] (hov h [(1, OB 0 (XOf s)), (11, OB 2 [.null, .null, .null, .null, .null, .int 0, .int p0])]) n (RdQ s p0 h n (frP (nmR T tp a 0))) := by
  refine AT.of (L := [some (.ref 1), none, none]) (by decide) (Nat.le_of_ble_eq_true rfl) rfl ?_
  refine ew_aload_n (t := 1) dX0_readFar_0 rfl rfl rfl ?_
  refine ew_bipush (t := 3) (v := 63) dX0_readFar_1 (by decide) rfl ?_
  refine ew_callV (t := 6) (As := [_]) (ax_takes (h := hov h [(11, FO p0)]) (s := s) (a := a) x12 h3 h4 ha htp 63) (fcX0).1 rfl (lw_V q376 q378 qs6 q51 q379) rfl naX0_takes dX0_readFar_3 rfl (Nat.le_of_ble_eq_true rfl) (Nat.le_of_ble_eq_true rfl) (Nat.le_refl _) (Nat.le_refl _) (Nat.le_of_ble_eq_true rfl) rfl (qi ?_)
  refine ew_if_eq (t := 12) (t2 := 9) dX0_readFar_6 rfl rfl (fun c_6 => ?_) (fun c_6 => ?_)
  · have e63 : ¬ nbC T tp (hrN T tp a) = 63 := by
      intro q
      rw [tkI, if_pos q] at c_6
      exact absurd c_6 (by decide)
    rw [show tkA T tp a 63 = hrN T tp a from if_neg e63]
    refine ew_aload_n (t := 13) dX0_readFar_12 rfl rfl rfl ?_
    refine ew_get (t := 16) (j := 4) (v := .int (nI (hrN T tp a))) fcX0 rfl (Nat.le_of_ble_eq_true rfl) q259 rfl dX0_readFar_13 rfl ?_
    refine ew_istore_n (t := 17) (L' := [some (.ref 1), some (.int (nI (hrN T tp a))), none]) dX0_readFar_16 rfl (Nat.le_of_ble_eq_true rfl) rfl rfl ?_
    refine ew_ic0 (t := 18) dX0_readFar_17 rfl ?_
    refine ew_istore_n (t := 19) (L' := [some (.ref 1), some (.int (nI (hrN T tp a))), some (.int 0)]) dX0_readFar_18 rfl (Nat.le_of_ble_eq_true rfl) rfl rfl ?_
    have hle := (hrN_le (T := T) ha).2
    obtain ⟨V, K, e⟩ : ∃ V K, nmL T (tp - hrN T tp a) 0 (hrN T tp a) = (V, K) := ⟨_, _, rfl⟩
    refine lx_readFar (s := s) (V := V) (K := K) x12 h3 htp (fun b hb eV => ?_) (tp - hrN T tp a) (hrN T tp a) 0 (by omega) (by omega) e
    have e63' : ¬ hrC T tp (hrN T tp a) = 63 := fun q => e63 ((nb_c (c := 63) hT htp hle (by omega) (by omega)).mpr q)
    have hK := nmL_ge (T := T) (tp - hrN T tp a) 0 (hrN T tp a)
    have hK2 := nmL_le (T := T) (tp - hrN T tp a) 0 (hrN T tp a)
    rw [e] at hK hK2
    dsimp only at hK hK2
    refine ew_aload_n (t := 87) dX0_readFar_86 rfl rfl rfl ?_
    refine ew_get (t := 90) (j := 4) (v := .int (nI K)) fcX0 rfl (Nat.le_of_ble_eq_true rfl) q259 rfl dX0_readFar_87 rfl ?_
    refine ew_iload_n (t := 91) dX0_readFar_90 rfl rfl rfl ?_
    refine ew_icmp_eq (t := 100) (t2 := 94) dX0_readFar_91 rfl rfl (fun c_91 => ?_) (fun c_91 => ?_)
    · refine ew_aload_n (t := 101) dX0_readFar_100 rfl rfl rfl ?_
      refine ew_iload_n (t := 102) dX0_readFar_101 rfl rfl rfl ?_
      refine ew_put (t := 105) (j := 4) (fs' := XOf (upd s 4 (nI (hrN T tp a)))) (h' := (hov h [(1, OB 0 (XOf (upd s 4 (nI (hrN T tp a))))), (11, OB 2 [.null, .null, .null, .null, .null, .int 0, .int p0])])) fcX0 rfl (Nat.le_of_ble_eq_true rfl) rfl q259 rfl rfl (Nat.le_of_ble_eq_true rfl) rfl dX0_readFar_102 (hov_up rfl) rfl ?_
      refine ew_aload_n (t := 106) dX0_readFar_105 rfl rfl rfl ?_
      refine ew_callV (t := 109) (As := []) (ax_wrong (h := h) (s := (upd s 4 (nI (hrN T tp a)))) (p0 := p0)) (fcX0).1 rfl (lw_V q372 q374 qs5 q51 q375) rfl naX0_wrong dX0_readFar_106 rfl (Nat.le_of_ble_eq_true rfl) (Nat.le_of_ble_eq_true rfl) (Nat.le_refl _) (Nat.le_refl _) (Nat.le_of_ble_eq_true rfl) rfl (qr ?_)
      refine ew_athrow dX0_readFar_109 ?_
      refine et_leave (by decide +kernel) (by decide +kernel) (Nat.le_refl _) (Nat.le_refl _) ?_
      have eK : K = hrN T tp a := nI_inj (by omega) (by omega) c_91
      rw [show frP (nmR T tp a 0) = (0, hrN T tp a, 1) from by
        unfold nmR frP
        rw [if_neg (not_not_intro rfl), if_pos e63', if_neg (not_not_intro (far_0 hT htp ha e eK))]
        rfl]
      exact RdQ.thr
    · refine ew_iload_n (t := 95) dX0_readFar_94 rfl rfl rfl ?_
      refine ew_bipush (t := 97) (v := 40) dX0_readFar_95 (by decide) rfl ?_
      refine ew_icmp_le (t := 110) (t2 := 100) dX0_readFar_97 rfl rfl (fun c_97 => ?_) (fun c_97 => ?_)
      · refine ew_iload_n (t := 111) dX0_readFar_110 rfl rfl rfl ?_
        exact ew_iret rfl dX0_readFar_111 (Nat.le_refl _) (Nat.le_refl _) (by rw [show nmR T tp a 0 = (nI b, K, 0) from by unfold nmR nmE; rw [if_neg (not_not_intro rfl), if_pos e63', if_pos (far_1 hT htp ha e (fun q => c_91 (by rw [q]))), e, eV]; exact if_pos ((far_40 hb).mp c_97), show min 999 b = b from far_m hb c_97, show frP (nI b, K, 0) = (nI b, K, 0) from by unfold frP; rw [if_neg (nI_pos (by omega))]]; exact RdQ.ret)
      · refine ew_aload_n (t := 101) dX0_readFar_100 rfl rfl rfl ?_
        refine ew_iload_n (t := 102) dX0_readFar_101 rfl rfl rfl ?_
        refine ew_put (t := 105) (j := 4) (fs' := XOf (upd s 4 (nI (hrN T tp a)))) (h' := (hov h [(1, OB 0 (XOf (upd s 4 (nI (hrN T tp a))))), (11, OB 2 [.null, .null, .null, .null, .null, .int 0, .int p0])])) fcX0 rfl (Nat.le_of_ble_eq_true rfl) rfl q259 rfl rfl (Nat.le_of_ble_eq_true rfl) rfl dX0_readFar_102 (hov_up rfl) rfl ?_
        refine ew_aload_n (t := 106) dX0_readFar_105 rfl rfl rfl ?_
        refine ew_callV (t := 109) (As := []) (ax_wrong (h := h) (s := (upd s 4 (nI (hrN T tp a)))) (p0 := p0)) (fcX0).1 rfl (lw_V q372 q374 qs5 q51 q375) rfl naX0_wrong dX0_readFar_106 rfl (Nat.le_of_ble_eq_true rfl) (Nat.le_of_ble_eq_true rfl) (Nat.le_refl _) (Nat.le_refl _) (Nat.le_of_ble_eq_true rfl) rfl (qr ?_)
        refine ew_athrow dX0_readFar_109 ?_
        refine et_leave (by decide +kernel) (by decide +kernel) (Nat.le_refl _) (Nat.le_refl _) ?_
        have eK : ¬ K = hrN T tp a := fun q => c_91 (by rw [q])
        have en : nmR T tp a 0 = (V, hrN T tp a, 1) := by
          unfold nmR nmE
          rw [if_neg (not_not_intro rfl), if_pos e63', if_pos (far_1 hT htp ha e eK), e]
          exact if_neg (fun q : V ≤ 40 => c_97 ((far_40 hb).mpr (by rw [← eV]; exact q)))
        rw [en]
        exact RdQ.thr
  · have e63 : nbC T tp (hrN T tp a) = 63 := by
      refine Decidable.byContradiction (fun q => c_6 ?_)
      rw [tkI, if_neg q]
    rw [show tkA T tp a 63 = hrN T tp a + 1 from if_pos e63]
    refine ew_bipush (t := 11) (v := (-4)) dX0_readFar_9 (by decide) rfl ?_
    exact ew_iret rfl dX0_readFar_11 (Nat.le_refl _) (Nat.le_refl _) (by rw [show nmR T tp a 0 = (-1, hrN T tp a + 1, 0) from by unfold nmR; rw [if_neg (not_not_intro rfl)]; exact if_neg (not_not_intro ((nb_c (c := 63) hT htp (hrN_le ha).2 (by omega) (by omega)).mp e63))]; exact RdQ.ret)
