-- Obj fields dict_keys(['cls', 'fun', 'sname', 'refs', 'extra', 'ups'])
/-! the reference: number -/
set_option maxRecDepth 100000
def nmV (v c : Int32) : Int32 := if v ≤ 999 then 10 * v + c - 48 else v
def nmL (T : Nat → Int32) : Nat → Int32 → Nat → Int32 × Nat
  | 0, v, k => (v, k)
  | f + 1, v, k => if b2i (inL (T k).toInt64 48 57) = 0 then (v, k) else nmL T f (nmV v (T k)) (k + 1)
def nmE (first : Nat) (p : Int32 × Nat) : Int32 × Nat × Int32 := if p.1 ≤ 40 then (p.1, p.2, 0) else (p.1, first, 1)
def nmR (T : Nat → Int32) (tp a : Nat) (wr : Int32) : Int32 × Nat × Int32 := if ¬ wr = 0 then (0, a, 1) else if ¬ hrC T tp (hrN T tp a) = 63 then (if ¬ b2i (inL (hrC T tp (hrN T tp a)).toInt64 48 57) = 0 then nmE (hrN T tp a) (nmL T (tp - hrN T tp a) 0 (hrN T tp a)) else (0, hrN T tp a, 1)) else (-1, hrN T tp a + 1, 0)

set_option maxHeartbeats 4000000 in
theorem lp_number {l : Launch} {G : GW} {h : AH} {n : Nat} {s : Nat → Int32} {al : Int64} {T : Nat → Int32} {tp : Nat} {Q : Option Value → AH → Nat → Prop} (m40 : h 40 = some (IA 60 T)) (h7 : s 7 = nI tp) (htp : tp ≤ 60) {first V : Int32} {K : Nat} (kk : EW l G yX4_number cX4_number 3 (some .int) 1 0 0 Q 0 0 (hov h [(33, OB 4 (MOf (upd s 8 (nI K)) al))]) n 141 [some (.ref 33), some (.int first), some (.int V)] []) : ∀ (f k : Nat) (v : Int32), k + f = tp → nmL T f v k = (V, K) → EW l G yX4_number cX4_number 3 (some .int) 1 0 0 Q 0 0 (hov h [(33, OB 4 (MOf (upd s 8 (nI k)) al))]) n 66 [some (.ref 33), some (.int first), some (.int v)] [] := by
  intro f
  induction f with
  | zero =>
    intro k v hk hv
    refine ew_aload_n (t := 67) dX4_number_66 rfl rfl rfl ?_
    refine ew_get (t := 70) (j := 8) (v := .int (nI k)) fcX4 rfl (Nat.le_of_ble_eq_true rfl) q1029 rfl dX4_number_67 rfl ?_
    refine ew_aload_n (t := 71) dX4_number_70 rfl rfl rfl ?_
    refine ew_get (t := 74) (j := 7) (v := .int (s 7)) fcX4 rfl (Nat.le_of_ble_eq_true rfl) q1028 rfl dX4_number_71 rfl ?_
    rw [h7]
    refine ew_icmp_ge (t := 141) (t2 := 77) dX4_number_74 rfl rfl (fun c_74 => ?_) (fun c_74 => ?_)
    · cases hv
      exact kk
    · exact absurd c_74 (by rw [show k = tp by omega]; exact not_not_intro (Int32.le_refl _))
  | succ f ih =>
    intro k v hk hv
    refine ew_aload_n (t := 67) dX4_number_66 rfl rfl rfl ?_
    refine ew_get (t := 70) (j := 8) (v := .int (nI k)) fcX4 rfl (Nat.le_of_ble_eq_true rfl) q1029 rfl dX4_number_67 rfl ?_
    refine ew_aload_n (t := 71) dX4_number_70 rfl rfl rfl ?_
    refine ew_get (t := 74) (j := 7) (v := .int (s 7)) fcX4 rfl (Nat.le_of_ble_eq_true rfl) q1028 rfl dX4_number_71 rfl ?_
    rw [h7]
    refine ew_icmp_ge (t := 141) (t2 := 77) dX4_number_74 rfl rfl (fun c_74 => ?_) (fun c_74 => ?_)
    · exact absurd c_74 (nI_ge (by omega) (by omega))
    · refine ew_aload_n (t := 78) dX4_number_77 rfl rfl rfl ?_
      refine ew_get (t := 81) (j := 6) (v := .ref 40) fcX4 rfl (Nat.le_of_ble_eq_true rfl) q1027 rfl dX4_number_78 rfl ?_
      refine ew_aload_n (t := 82) dX4_number_81 rfl rfl rfl ?_
      refine ew_get (t := 85) (j := 8) (v := .int (nI k)) fcX4 rfl (Nat.le_of_ble_eq_true rfl) q1029 rfl dX4_number_82 rfl ?_
      refine ew_iald (t := 86) (j := k) (N := 60) m40 (vp_in_nI (by omega) (by omega)) (nI_clamp (by omega)) dX4_number_85 rfl ?_
      refine ew_i2l (t := 87) dX4_number_86 rfl ?_
      refine ew_ldc2 (t := 90) (v := 48) dX4_number_87 q1200 rfl ?_
      refine ew_ldc2 (t := 93) (v := 57) dX4_number_90 q1201 rfl ?_
      refine ew_callS (t := 96) (As := [_, _, _]) (am_in _ _ _) (lw_S q1153 q1154 q60 q1155) naX4_in dX4_number_93 rfl (Nat.le_of_ble_eq_true rfl) (Nat.le_of_ble_eq_true rfl) (Nat.le_refl _) (Nat.le_refl _) (Nat.le_of_ble_eq_true rfl) rfl (qi ?_)
      refine ew_if_eq (t := 141) (t2 := 99) dX4_number_96 rfl rfl (fun c_96 => ?_) (fun c_96 => ?_)
      · rw [nmL, if_pos c_96] at hv
        cases hv
        exact kk
      · refine ew_iload_n (t := 100) dX4_number_99 rfl rfl rfl ?_
        refine ew_sipush (t := 103) (v := 999) dX4_number_100 (by decide) rfl ?_
        have J127 : ∀ (j127_0 : Int32), j127_0 = ((if v ≤ 999 then (((10 * v) + (T k)) - 48) else v) : Int32) → EW l G yX4_number cX4_number 3 (some .int) 1 0 0 Q 0 0 (hov h [(33, OB 4 (MOf (upd s 8 (nI k)) al))]) n 127 [some (.ref 33), some (.int first), some (.int v)] [.int j127_0] := by
          intro j127_0 hj127_0
          rw [show j127_0 = nmV v (T k) from hj127_0]
          refine ew_istore_n (t := 128) (L' := [some (.ref 33), some (.int first), some (.int (nmV v (T k)))]) dX4_number_127 rfl (Nat.le_of_ble_eq_true rfl) rfl rfl ?_
          refine ew_aload_n (t := 129) dX4_number_128 rfl rfl rfl ?_
          refine ew_dup (t := 130) dX4_number_129 rfl rfl ?_
          refine ew_get (t := 133) (j := 8) (v := .int (nI k)) fcX4 rfl (Nat.le_of_ble_eq_true rfl) q1029 rfl dX4_number_130 rfl ?_
          refine ew_ic1 (t := 134) dX4_number_133 rfl ?_
          refine ew_iadd (t := 135) dX4_number_134 rfl ?_
          refine ew_put (t := 138) (j := 8) (fs' := MOf (upd s 8 ((nI k) + 1)) al) (h' := (hov h [(33, OB 4 (MOf (upd s 8 ((nI k) + 1)) al))])) fcX4 rfl (Nat.le_of_ble_eq_true rfl) rfl q1029 rfl rfl (Nat.le_of_ble_eq_true rfl) rfl dX4_number_135 (hov_up rfl) rfl ?_
          refine ew_goto (t := 66) dX4_number_138 rfl ?_
          rw [nI_1]
          rw [nmL, if_neg c_96] at hv
          exact ih (k + 1) _ (by omega) hv
        refine ew_icmp_le (t := 110) (t2 := 106) dX4_number_103 rfl rfl (fun c_103 => ?_) (fun c_103 => ?_)
        · refine ew_bipush (t := 112) (v := 10) dX4_number_110 (by decide) rfl ?_
          refine ew_iload_n (t := 113) dX4_number_112 rfl rfl rfl ?_
          refine ew_imul (t := 114) dX4_number_113 rfl ?_
          refine ew_aload_n (t := 115) dX4_number_114 rfl rfl rfl ?_
          refine ew_get (t := 118) (j := 6) (v := .ref 40) fcX4 rfl (Nat.le_of_ble_eq_true rfl) q1027 rfl dX4_number_115 rfl ?_
          refine ew_aload_n (t := 119) dX4_number_118 rfl rfl rfl ?_
          refine ew_get (t := 122) (j := 8) (v := .int (nI k)) fcX4 rfl (Nat.le_of_ble_eq_true rfl) q1029 rfl dX4_number_119 rfl ?_
          refine ew_iald (t := 123) (j := k) (N := 60) m40 (vp_in_nI (by omega) (by omega)) (nI_clamp (by omega)) dX4_number_122 rfl ?_
          refine ew_iadd (t := 124) dX4_number_123 rfl ?_
          refine ew_bipush (t := 126) (v := 48) dX4_number_124 (by decide) rfl ?_
          refine ew_isub (t := 127) dX4_number_126 rfl ?_
          exact J127 (((10 * v) + (T k)) - 48) (by simp only [if_pos c_103])
        · refine ew_iload_n (t := 107) dX4_number_106 rfl rfl rfl ?_
          refine ew_goto (t := 127) dX4_number_107 rfl ?_
          exact J127 v (by simp only [if_neg c_103])
set_option maxHeartbeats 4000000 in
theorem am_number {l : Launch} {G : GW} {h : AH} {n : Nat} {s : Nat → Int32} {al : Int64} {T : Nat → Int32} {tp a : Nat} (m33 : h 33 = some (MO s al)) (m40 : h 40 = some (IA 60 T)) (h7 : s 7 = nI tp) (h8 : s 8 = nI a) (ha : a ≤ tp) (htp : tp ≤ 60) : AM l G yX4_number cX4_number 3 (some .int) 1 0 0 [.ref 33] h n (TxQ s al h n (nmR T tp a (s 9))) := by
  refine AM.of (L := [some (.ref 33), none, none]) (by decide) (Nat.le_of_ble_eq_true rfl) rfl ?_
  refine EW.heap (h' := hov h [(33, MO s al)]) (hov_same (h := h) m33).symm ?_
  refine ew_aload_n (t := 1) dX4_number_0 rfl rfl rfl ?_
  refine ew_get (t := 4) (j := 9) (v := .int (s 9)) fcX4 rfl (Nat.le_of_ble_eq_true rfl) q1030 rfl dX4_number_1 rfl ?_
  refine ew_if_ne (t := 28) (t2 := 7) dX4_number_4 rfl rfl (fun c_4 => ?_) (fun c_4 => ?_)
  · refine ew_aload_n (t := 29) dX4_number_28 rfl rfl rfl ?_
    refine ew_get (t := 32) (j := 9) (v := .int (s 9)) fcX4 rfl (Nat.le_of_ble_eq_true rfl) q1030 rfl dX4_number_29 rfl ?_
    refine ew_if_ne (t := 52) (t2 := 35) dX4_number_32 rfl rfl (fun c_32 => ?_) (fun c_32 => ?_)
    · refine ew_aload_n (t := 53) dX4_number_52 rfl rfl rfl ?_
      refine ew_ic1 (t := 54) dX4_number_53 rfl ?_
      refine ew_put (t := 57) (j := 9) (fs' := MOf (upd s 9 1) al) (h' := (hov h [(33, OB 4 (MOf (upd s 9 1) al))])) fcX4 rfl (Nat.le_of_ble_eq_true rfl) rfl q1030 (by decide) (by decide) (Nat.le_of_ble_eq_true rfl) rfl dX4_number_54 (hov_up rfl) rfl ?_
      refine ew_ic0 (t := 58) dX4_number_57 rfl ?_
      exact ew_iret rfl dX4_number_58 (Nat.le_refl _) (Nat.le_refl _) (by rw [show nmR T tp a (s 9) = (0, a, 1) from if_pos c_4]; exact ⟨rfl, rfl, _, rfl, h8, rfl, fun j h1 h2 => by first | rw [pk_un h2, pk_un h1] | rw [pk_un h1, pk_un h2] | rw [pk_un h1] | rw [pk_un h2]⟩)
    · exact absurd c_32 c_4
  · refine ew_aload_n (t := 8) dX4_number_7 rfl rfl rfl ?_
    refine ew_callV (t := 11) (As := []) (am_here (h := h) (s := s) m40 h7 h8 ha htp) (fcX4).1 rfl (lw_V q1192 q1194 qs31 q60 q1195) rfl naX4_here dX4_number_8 rfl (Nat.le_of_ble_eq_true rfl) (Nat.le_of_ble_eq_true rfl) (Nat.le_refl _) (Nat.le_refl _) (Nat.le_of_ble_eq_true rfl) rfl (qi ?_)
    refine ew_bipush (t := 13) (v := 63) dX4_number_11 (by decide) rfl ?_
    refine ew_icmp_ne (t := 28) (t2 := 16) dX4_number_13 rfl rfl (fun c_13 => ?_) (fun c_13 => ?_)
    · refine ew_aload_n (t := 29) dX4_number_28 rfl rfl rfl ?_
      refine ew_get (t := 32) (j := 9) (v := .int (s 9)) fcX4 rfl (Nat.le_of_ble_eq_true rfl) q1030 rfl dX4_number_29 rfl ?_
      refine ew_if_ne (t := 52) (t2 := 35) dX4_number_32 rfl rfl (fun c_32 => ?_) (fun c_32 => ?_)
      · exact absurd c_4 c_32
      · refine ew_aload_n (t := 36) dX4_number_35 rfl rfl rfl ?_
        refine ew_callV (t := 39) (As := []) (am_here (h := h) (s := (upd s 8 (nI (hrN T tp a)))) m40 h7 rfl (hrN_le ha).2 htp) (fcX4).1 rfl (lw_V q1192 q1194 qs31 q60 q1195) rfl naX4_here dX4_number_36 rfl (Nat.le_of_ble_eq_true rfl) (Nat.le_of_ble_eq_true rfl) (Nat.le_refl _) (Nat.le_refl _) (Nat.le_of_ble_eq_true rfl) rfl (qi ?_)
        rw [hrN_idem ha, upd_same (s := (upd s 8 (nI (hrN T tp a)))) (k := 8) (x := (nI (hrN T tp a))) rfl]
        refine ew_i2l (t := 40) dX4_number_39 rfl ?_
        refine ew_ldc2 (t := 43) (v := 48) dX4_number_40 q1200 rfl ?_
        refine ew_ldc2 (t := 46) (v := 57) dX4_number_43 q1201 rfl ?_
        refine ew_callS (t := 49) (As := [_, _, _]) (am_in _ _ _) (lw_S q1153 q1154 q60 q1155) naX4_in dX4_number_46 rfl (Nat.le_of_ble_eq_true rfl) (Nat.le_of_ble_eq_true rfl) (Nat.le_refl _) (Nat.le_refl _) (Nat.le_of_ble_eq_true rfl) rfl (qi ?_)
        refine ew_if_ne (t := 59) (t2 := 52) dX4_number_49 rfl rfl (fun c_49 => ?_) (fun c_49 => ?_)
        · refine ew_aload_n (t := 60) dX4_number_59 rfl rfl rfl ?_
          refine ew_get (t := 63) (j := 8) (v := .int (nI (hrN T tp a))) fcX4 rfl (Nat.le_of_ble_eq_true rfl) q1029 rfl dX4_number_60 rfl ?_
          refine ew_istore_n (t := 64) (L' := [some (.ref 33), some (.int (nI (hrN T tp a))), none]) dX4_number_63 rfl (Nat.le_of_ble_eq_true rfl) rfl rfl ?_
          refine ew_ic0 (t := 65) dX4_number_64 rfl ?_
          refine ew_istore_n (t := 66) (L' := [some (.ref 33), some (.int (nI (hrN T tp a))), some (.int 0)]) dX4_number_65 rfl (Nat.le_of_ble_eq_true rfl) rfl rfl ?_
          obtain ⟨V, K, e⟩ : ∃ V K, nmL T (tp - hrN T tp a) 0 (hrN T tp a) = (V, K) := ⟨_, _, rfl⟩
          refine lp_number (s := s) (V := V) (K := K) m40 h7 htp ?_ (tp - hrN T tp a) (hrN T tp a) 0 (by have := (hrN_le (T := T) ha).2; omega) e
          refine ew_aload_n (t := 142) dX4_number_141 rfl rfl rfl ?_
          refine ew_iload_n (t := 143) dX4_number_142 rfl rfl rfl ?_
          refine ew_bipush (t := 145) (v := 40) dX4_number_143 (by decide) rfl ?_
          refine ew_icmp_le (t := 152) (t2 := 148) dX4_number_145 rfl rfl (fun c_145 => ?_) (fun c_145 => ?_)
          · refine ew_ic0 (t := 153) dX4_number_152 rfl ?_
            refine ew_put (t := 156) (j := 9) (fs' := MOf (upd (upd s 8 (nI K)) 9 0) al) (h' := (hov h [(33, OB 4 (MOf (upd (upd s 8 (nI K)) 9 0) al))])) fcX4 rfl (Nat.le_of_ble_eq_true rfl) rfl q1030 (by decide) (by decide) (Nat.le_of_ble_eq_true rfl) rfl dX4_number_153 (hov_up rfl) rfl ?_
            refine ew_aload_n (t := 157) dX4_number_156 rfl rfl rfl ?_
            refine ew_aload_n (t := 158) dX4_number_157 rfl rfl rfl ?_
            refine ew_get (t := 161) (j := 9) (v := .int 0) fcX4 rfl (Nat.le_of_ble_eq_true rfl) q1030 rfl dX4_number_158 rfl ?_
            refine ew_if_eq (t := 168) (t2 := 164) dX4_number_161 rfl rfl (fun c_161 => ?_) (fun c_161 => ?_)
            · refine ew_aload_n (t := 169) dX4_number_168 rfl rfl rfl ?_
              refine ew_get (t := 172) (j := 8) (v := .int (nI K)) fcX4 rfl (Nat.le_of_ble_eq_true rfl) q1029 rfl dX4_number_169 rfl ?_
              refine ew_put (t := 175) (j := 8) (fs' := MOf (upd (upd s 8 (nI K)) 9 0) al) (h' := (hov h [(33, OB 4 (MOf (upd (upd s 8 (nI K)) 9 0) al))])) fcX4 rfl (Nat.le_of_ble_eq_true rfl) rfl q1029 rfl rfl (Nat.le_of_ble_eq_true rfl) rfl dX4_number_172 (hov_up rfl) rfl ?_
              refine ew_iload_n (t := 176) dX4_number_175 rfl rfl rfl ?_
              exact ew_iret rfl dX4_number_176 (Nat.le_refl _) (Nat.le_refl _) (by rw [show nmR T tp a (s 9) = (V, K, 0) from by unfold nmR nmE; rw [if_neg (not_not_intro c_4), if_pos c_13, if_pos c_49, e, if_pos c_145]]; exact ⟨rfl, rfl, _, rfl, rfl, rfl, fun j h1 h2 => by first | rw [pk_un h2, pk_un h1] | rw [pk_un h1, pk_un h2] | rw [pk_un h1] | rw [pk_un h2]⟩)
            · exact absurd c_161 (by decide)
          · refine ew_ic1 (t := 149) dX4_number_148 rfl ?_
            refine ew_goto (t := 153) dX4_number_149 rfl ?_
            refine ew_put (t := 156) (j := 9) (fs' := MOf (upd (upd s 8 (nI K)) 9 1) al) (h' := (hov h [(33, OB 4 (MOf (upd (upd s 8 (nI K)) 9 1) al))])) fcX4 rfl (Nat.le_of_ble_eq_true rfl) rfl q1030 (by decide) (by decide) (Nat.le_of_ble_eq_true rfl) rfl dX4_number_153 (hov_up rfl) rfl ?_
            refine ew_aload_n (t := 157) dX4_number_156 rfl rfl rfl ?_
            refine ew_aload_n (t := 158) dX4_number_157 rfl rfl rfl ?_
            refine ew_get (t := 161) (j := 9) (v := .int 1) fcX4 rfl (Nat.le_of_ble_eq_true rfl) q1030 rfl dX4_number_158 rfl ?_
            refine ew_if_eq (t := 168) (t2 := 164) dX4_number_161 rfl rfl (fun c_161 => ?_) (fun c_161 => ?_)
            · exact absurd c_161 (by decide)
            · refine ew_iload_n (t := 165) dX4_number_164 rfl rfl rfl ?_
              refine ew_goto (t := 172) dX4_number_165 rfl ?_
              refine ew_put (t := 175) (j := 8) (fs' := MOf (upd (upd s 8 (nI (hrN T tp a))) 9 1) al) (h' := (hov h [(33, OB 4 (MOf (upd (upd s 8 (nI (hrN T tp a))) 9 1) al))])) fcX4 rfl (Nat.le_of_ble_eq_true rfl) rfl q1029 rfl rfl (Nat.le_of_ble_eq_true rfl) rfl dX4_number_172 (hov_up rfl) rfl ?_
              refine ew_iload_n (t := 176) dX4_number_175 rfl rfl rfl ?_
              exact ew_iret rfl dX4_number_176 (Nat.le_refl _) (Nat.le_refl _) (by rw [show nmR T tp a (s 9) = (V, hrN T tp a, 1) from by unfold nmR nmE; rw [if_neg (not_not_intro c_4), if_pos c_13, if_pos c_49, e, if_neg c_145]]; exact ⟨rfl, rfl, _, rfl, rfl, rfl, fun j h1 h2 => by first | rw [pk_un h2, pk_un h1] | rw [pk_un h1, pk_un h2] | rw [pk_un h1] | rw [pk_un h2]⟩)
        · refine ew_aload_n (t := 53) dX4_number_52 rfl rfl rfl ?_
          refine ew_ic1 (t := 54) dX4_number_53 rfl ?_
          refine ew_put (t := 57) (j := 9) (fs' := MOf (upd (upd s 8 (nI (hrN T tp a))) 9 1) al) (h' := (hov h [(33, OB 4 (MOf (upd (upd s 8 (nI (hrN T tp a))) 9 1) al))])) fcX4 rfl (Nat.le_of_ble_eq_true rfl) rfl q1030 (by decide) (by decide) (Nat.le_of_ble_eq_true rfl) rfl dX4_number_54 (hov_up rfl) rfl ?_
          refine ew_ic0 (t := 58) dX4_number_57 rfl ?_
          exact ew_iret rfl dX4_number_58 (Nat.le_refl _) (Nat.le_refl _) (by rw [show nmR T tp a (s 9) = (0, hrN T tp a, 1) from by unfold nmR; rw [if_neg (not_not_intro c_4), if_pos c_13, if_neg (not_not_intro c_49)]]; exact ⟨rfl, rfl, _, rfl, rfl, rfl, fun j h1 h2 => by first | rw [pk_un h2, pk_un h1] | rw [pk_un h1, pk_un h2] | rw [pk_un h1] | rw [pk_un h2]⟩)
    · refine ew_aload_n (t := 17) dX4_number_16 rfl rfl rfl ?_
      refine ew_dup (t := 18) dX4_number_17 rfl rfl ?_
      refine ew_get (t := 21) (j := 8) (v := .int (nI (hrN T tp a))) fcX4 rfl (Nat.le_of_ble_eq_true rfl) q1029 rfl dX4_number_18 rfl ?_
      refine ew_ic1 (t := 22) dX4_number_21 rfl ?_
      refine ew_iadd (t := 23) dX4_number_22 rfl ?_
      refine ew_put (t := 26) (j := 8) (fs' := MOf (upd s 8 ((nI (hrN T tp a)) + 1)) al) (h' := (hov h [(33, OB 4 (MOf (upd s 8 ((nI (hrN T tp a)) + 1)) al))])) fcX4 rfl (Nat.le_of_ble_eq_true rfl) rfl q1029 rfl rfl (Nat.le_of_ble_eq_true rfl) rfl dX4_number_23 (hov_up rfl) rfl ?_
      refine ew_icm1 (t := 27) dX4_number_26 rfl ?_
      exact ew_iret rfl dX4_number_27 (Nat.le_refl _) (Nat.le_refl _) (by rw [show nmR T tp a (s 9) = (-1, hrN T tp a + 1, 0) from by unfold nmR; rw [if_neg (not_not_intro c_4), if_neg (not_not_intro c_13)]]; exact ⟨rfl, rfl, _, rfl, nI_1 _, c_4, fun j h1 h2 => by first | rw [pk_un h2, pk_un h1] | rw [pk_un h1, pk_un h2] | rw [pk_un h1] | rw [pk_un h2]⟩)
