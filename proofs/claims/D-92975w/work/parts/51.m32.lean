-- Obj fields dict_keys(['cls', 'fun', 'sname', 'refs', 'extra', 'ups'])
/-! the reference: image, restore -/
set_option maxRecDepth 100000
def svI (g f : Nat → Int32) (a : Nat) : Nat → Nat → Int32
  | 0 => g
  | k + 1 => upd (svI g f a k) (a + k) (f k)
def gvI (g f : Nat → Int32) (a : Nat) : Nat → Nat → Int32
  | 0 => g
  | k + 1 => upd (gvI g f a k) k (f (a + k))
def im1 (F : Nat → Nat → Int32) : Nat → Nat → Int32 := va_up (F) 58 (svI (F 58) (F 34) 0 8)
def im2 (F : Nat → Nat → Int32) : Nat → Nat → Int32 := va_up (im1 F) 58 (svI (im1 F 58) (im1 F 35) 8 7)
def im3 (F : Nat → Nat → Int32) : Nat → Nat → Int32 := va_up (im2 F) 58 (svI (im2 F 58) (im2 F 36) 15 7)
def im4 (F : Nat → Nat → Int32) : Nat → Nat → Int32 := va_up (im3 F) 58 (svI (im3 F 58) (im3 F 37) 22 200)
def im5 (F : Nat → Nat → Int32) : Nat → Nat → Int32 := va_up (im4 F) 58 (svI (im4 F 58) (im4 F 38) 222 200)
def im6 (F : Nat → Nat → Int32) : Nat → Nat → Int32 := va_up (im5 F) 58 (svI (im5 F 58) (im5 F 39) 422 100)
def im7 (F : Nat → Nat → Int32) : Nat → Nat → Int32 := va_up (im6 F) 58 (svI (im6 F 58) (im6 F 52) 522 20)
def im8 (F : Nat → Nat → Int32) : Nat → Nat → Int32 := va_up (im7 F) 58 (svI (im7 F 58) (im7 F 53) 542 6)
def im9 (F : Nat → Nat → Int32) : Nat → Nat → Int32 := va_up (im8 F) 58 (svI (im8 F 58) (im8 F 54) 548 6)
def rs1 (F : Nat → Nat → Int32) : Nat → Nat → Int32 := va_up (F) 34 (gvI (F 34) (F 58) 0 8)
def rs2 (F : Nat → Nat → Int32) : Nat → Nat → Int32 := va_up (rs1 F) 35 (gvI (rs1 F 35) (rs1 F 58) 8 7)
def rs3 (F : Nat → Nat → Int32) : Nat → Nat → Int32 := va_up (rs2 F) 36 (gvI (rs2 F 36) (rs2 F 58) 15 7)
def rs4 (F : Nat → Nat → Int32) : Nat → Nat → Int32 := va_up (rs3 F) 37 (gvI (rs3 F 37) (rs3 F 58) 22 200)
def rs5 (F : Nat → Nat → Int32) : Nat → Nat → Int32 := va_up (rs4 F) 38 (gvI (rs4 F 38) (rs4 F 58) 222 200)
def rs6 (F : Nat → Nat → Int32) : Nat → Nat → Int32 := va_up (rs5 F) 39 (gvI (rs5 F 39) (rs5 F 58) 422 100)
def rs7 (F : Nat → Nat → Int32) : Nat → Nat → Int32 := va_up (rs6 F) 52 (gvI (rs6 F 52) (rs6 F 58) 522 20)
def rs8 (F : Nat → Nat → Int32) : Nat → Nat → Int32 := va_up (rs7 F) 53 (gvI (rs7 F 53) (rs7 F 58) 542 6)
def rs9 (F : Nat → Nat → Int32) : Nat → Nat → Int32 := va_up (rs8 F) 54 (gvI (rs8 F 54) (rs8 F 58) 548 6)
def imgP (s : Nat → Int32) (F : Nat → Nat → Int32) : OR := (1, upd s 37 1, va_up (im9 F) 58 (upd (upd (im9 F 58) 554 (s 25)) 555 (s 27)))
def rstP (s : Nat → Int32) (F : Nat → Nat → Int32) : OR := if ¬ s 37 = 0 then (1, upd (upd s 25 (rs9 F 58 554)) 27 (rs9 F 58 555), rs9 F) else (-4, s, F)
/-- an array of the reference has been written -/
def SvQ (s : Nat → Int32) (al : Int64) (F : Nat → Nat → Int32) (FL : Nat → Int64) (h : AH) (n : Nat) (v : Int32) : Option Value → AH → Nat → Prop := fun r h' n' => r = some (.int v) ∧ n' = n ∧ frM h h' ∧ MC s al F FL h'

set_option maxHeartbeats 4000000 in
theorem lp_saves34 {l : Launch} {G : GW} {h : AH} {n : Nat} {f0 g0 : Nat → Int32} {Q : Option Value → AH → Nat → Prop} (mp : h 34 = some (IA 8 f0)) (hq : Q (some (.int 8)) (hov h [(58, IA 570 (svI g0 f0 0 8))]) n) : ∀ (f k : Nat), k + f = 8 → EW l G yX4_saves cX4_saves 4 (some .int) 0 0 0 Q 0 0 (hov h [(58, IA 570 (svI g0 f0 0 k))]) n 2 [some (.ref 34), some (.ref 58), some (.int 0), some (.int (nI k))] [] := by
  intro f
  induction f with
  | zero =>
    intro k  hk
    refine ew_iload_n (t := 3) dX4_saves_2 rfl rfl rfl ?_
    refine ew_aload_n (t := 4) dX4_saves_3 rfl rfl rfl ?_
    refine ew_alen (t := 5) (v := 8) mp (Nat.le_of_ble_eq_true rfl) rfl dX4_saves_4 rfl ?_
    refine ew_icmp_ge (t := 22) (t2 := 8) dX4_saves_5 rfl rfl (fun c_5 => ?_) (fun c_5 => ?_)
    · refine ew_iload_n (t := 23) dX4_saves_22 rfl rfl rfl ?_
      refine ew_aload_n (t := 24) dX4_saves_23 rfl rfl rfl ?_
      refine ew_alen (t := 25) (v := 8) mp (Nat.le_of_ble_eq_true rfl) rfl dX4_saves_24 rfl ?_
      refine ew_iadd (t := 26) dX4_saves_25 rfl ?_
      exact ew_iret rfl dX4_saves_26 (Nat.le_refl _) (Nat.le_refl _) (by rw [show k = 8 by omega]; exact hq)
    · exact absurd (show (8 : Int32) ≤ nI k by rw [show k = 8 by omega]; decide) c_5
  | succ f ih =>
    intro k  hk
    refine ew_iload_n (t := 3) dX4_saves_2 rfl rfl rfl ?_
    refine ew_aload_n (t := 4) dX4_saves_3 rfl rfl rfl ?_
    refine ew_alen (t := 5) (v := 8) mp (Nat.le_of_ble_eq_true rfl) rfl dX4_saves_4 rfl ?_
    refine ew_icmp_ge (t := 22) (t2 := 8) dX4_saves_5 rfl rfl (fun c_5 => ?_) (fun c_5 => ?_)
    · exact absurd c_5 (nI_ge (b := 8) (by omega) (by omega))
    · refine ew_aload_n (t := 9) dX4_saves_8 rfl rfl rfl ?_
      refine ew_iload_n (t := 10) dX4_saves_9 rfl rfl rfl ?_
      refine ew_iload_n (t := 11) dX4_saves_10 rfl rfl rfl ?_
      refine ew_iadd (t := 12) dX4_saves_11 rfl ?_
      rw [show (0 : Int32) + nI k = nI (0 + k) from nI_add 0 k]
      refine ew_aload_n (t := 13) dX4_saves_12 rfl rfl rfl ?_
      refine ew_iload_n (t := 14) dX4_saves_13 rfl rfl rfl ?_
      refine ew_iald (t := 15) (j := k) (N := 8) mp (vp_in_nI (by omega) (by omega)) (nI_clamp (by omega)) dX4_saves_14 rfl ?_
      refine ew_iast (t := 16) (j := (0 + k)) (N := 570) (h' := (hov h [(58, IA 570 (upd (svI g0 f0 0 k) (0 + k) (f0 k)))])) rfl (vp_in_nI (by omega) (by omega)) (nI_clamp (by omega)) dX4_saves_15 (hov_up rfl) rfl ?_
      refine ew_iinc (t := 19) (x := (nI k)) (v := ((nI k) + 1)) (L' := [some (.ref 34), some (.ref 58), some (.int 0), some (.int ((nI k) + 1))]) dX4_saves_16 rfl rfl (Nat.le_of_ble_eq_true rfl) rfl rfl ?_
      refine ew_goto (t := 2) dX4_saves_19 rfl ?_
      rw [nI_1]
      exact ih (k + 1) (by omega)
set_option maxHeartbeats 4000000 in
theorem mc_saves34 {l : Launch} {G : GW} {h : AH} {n : Nat} {s : Nat → Int32} {al : Int64} {F : Nat → Nat → Int32} {FL : Nat → Int64} (mc : MC s al F FL h) : AM l G yX4_saves cX4_saves 4 (some .int) 0 0 0 [.ref 34, .ref 58, .int 0] h n (SvQ s al (va_up F 58 (svI (F 58) (F 34) 0 8)) FL h n 8) := by
  refine AM.of (L := [some (.ref 34), some (.ref 58), some (.int 0), none]) (by decide) (Nat.le_of_ble_eq_true rfl) rfl ?_
  refine ew_ic0 (t := 1) dX4_saves_0 rfl ?_
  refine ew_istore_n (t := 2) (L' := [some (.ref 34), some (.ref 58), some (.int 0), some (.int 0)]) dX4_saves_1 rfl (Nat.le_of_ble_eq_true rfl) rfl rfl ?_
  refine EW.heap (h' := hov h [(58, IA 570 (F 58))]) (hov_same (h := h) (mI mc 58 rfl)).symm ?_
  exact lp_saves34 (mI mc 34 rfl) ⟨rfl, rfl, ovI rfl, MC_I (c := 58) rfl (l := []) mc⟩ 8 0 (by omega)
set_option maxHeartbeats 4000000 in
theorem lp_saves35 {l : Launch} {G : GW} {h : AH} {n : Nat} {f0 g0 : Nat → Int32} {Q : Option Value → AH → Nat → Prop} (mp : h 35 = some (IA 7 f0)) (hq : Q (some (.int 15)) (hov h [(58, IA 570 (svI g0 f0 8 7))]) n) : ∀ (f k : Nat), k + f = 7 → EW l G yX4_saves cX4_saves 4 (some .int) 0 0 0 Q 0 0 (hov h [(58, IA 570 (svI g0 f0 8 k))]) n 2 [some (.ref 35), some (.ref 58), some (.int 8), some (.int (nI k))] [] := by
  intro f
  induction f with
  | zero =>
    intro k  hk
    refine ew_iload_n (t := 3) dX4_saves_2 rfl rfl rfl ?_
    refine ew_aload_n (t := 4) dX4_saves_3 rfl rfl rfl ?_
    refine ew_alen (t := 5) (v := 7) mp (Nat.le_of_ble_eq_true rfl) rfl dX4_saves_4 rfl ?_
    refine ew_icmp_ge (t := 22) (t2 := 8) dX4_saves_5 rfl rfl (fun c_5 => ?_) (fun c_5 => ?_)
    · refine ew_iload_n (t := 23) dX4_saves_22 rfl rfl rfl ?_
      refine ew_aload_n (t := 24) dX4_saves_23 rfl rfl rfl ?_
      refine ew_alen (t := 25) (v := 7) mp (Nat.le_of_ble_eq_true rfl) rfl dX4_saves_24 rfl ?_
      refine ew_iadd (t := 26) dX4_saves_25 rfl ?_
      exact ew_iret rfl dX4_saves_26 (Nat.le_refl _) (Nat.le_refl _) (by rw [show k = 7 by omega]; exact hq)
    · exact absurd (show (7 : Int32) ≤ nI k by rw [show k = 7 by omega]; decide) c_5
  | succ f ih =>
    intro k  hk
    refine ew_iload_n (t := 3) dX4_saves_2 rfl rfl rfl ?_
    refine ew_aload_n (t := 4) dX4_saves_3 rfl rfl rfl ?_
    refine ew_alen (t := 5) (v := 7) mp (Nat.le_of_ble_eq_true rfl) rfl dX4_saves_4 rfl ?_
    refine ew_icmp_ge (t := 22) (t2 := 8) dX4_saves_5 rfl rfl (fun c_5 => ?_) (fun c_5 => ?_)
    · exact absurd c_5 (nI_ge (b := 7) (by omega) (by omega))
    · refine ew_aload_n (t := 9) dX4_saves_8 rfl rfl rfl ?_
      refine ew_iload_n (t := 10) dX4_saves_9 rfl rfl rfl ?_
      refine ew_iload_n (t := 11) dX4_saves_10 rfl rfl rfl ?_
      refine ew_iadd (t := 12) dX4_saves_11 rfl ?_
      rw [show (8 : Int32) + nI k = nI (8 + k) from nI_add 8 k]
      refine ew_aload_n (t := 13) dX4_saves_12 rfl rfl rfl ?_
      refine ew_iload_n (t := 14) dX4_saves_13 rfl rfl rfl ?_
      refine ew_iald (t := 15) (j := k) (N := 7) mp (vp_in_nI (by omega) (by omega)) (nI_clamp (by omega)) dX4_saves_14 rfl ?_
      refine ew_iast (t := 16) (j := (8 + k)) (N := 570) (h' := (hov h [(58, IA 570 (upd (svI g0 f0 8 k) (8 + k) (f0 k)))])) rfl (vp_in_nI (by omega) (by omega)) (nI_clamp (by omega)) dX4_saves_15 (hov_up rfl) rfl ?_
      refine ew_iinc (t := 19) (x := (nI k)) (v := ((nI k) + 1)) (L' := [some (.ref 35), some (.ref 58), some (.int 8), some (.int ((nI k) + 1))]) dX4_saves_16 rfl rfl (Nat.le_of_ble_eq_true rfl) rfl rfl ?_
      refine ew_goto (t := 2) dX4_saves_19 rfl ?_
      rw [nI_1]
      exact ih (k + 1) (by omega)
set_option maxHeartbeats 4000000 in
theorem mc_saves35 {l : Launch} {G : GW} {h : AH} {n : Nat} {s : Nat → Int32} {al : Int64} {F : Nat → Nat → Int32} {FL : Nat → Int64} (mc : MC s al F FL h) : AM l G yX4_saves cX4_saves 4 (some .int) 0 0 0 [.ref 35, .ref 58, .int 8] h n (SvQ s al (va_up F 58 (svI (F 58) (F 35) 8 7)) FL h n 15) := by
  refine AM.of (L := [some (.ref 35), some (.ref 58), some (.int 8), none]) (by decide) (Nat.le_of_ble_eq_true rfl) rfl ?_
  refine ew_ic0 (t := 1) dX4_saves_0 rfl ?_
  refine ew_istore_n (t := 2) (L' := [some (.ref 35), some (.ref 58), some (.int 8), some (.int 0)]) dX4_saves_1 rfl (Nat.le_of_ble_eq_true rfl) rfl rfl ?_
  refine EW.heap (h' := hov h [(58, IA 570 (F 58))]) (hov_same (h := h) (mI mc 58 rfl)).symm ?_
  exact lp_saves35 (mI mc 35 rfl) ⟨rfl, rfl, ovI rfl, MC_I (c := 58) rfl (l := []) mc⟩ 7 0 (by omega)
set_option maxHeartbeats 4000000 in
theorem lp_saves36 {l : Launch} {G : GW} {h : AH} {n : Nat} {f0 g0 : Nat → Int32} {Q : Option Value → AH → Nat → Prop} (mp : h 36 = some (IA 7 f0)) (hq : Q (some (.int 22)) (hov h [(58, IA 570 (svI g0 f0 15 7))]) n) : ∀ (f k : Nat), k + f = 7 → EW l G yX4_saves cX4_saves 4 (some .int) 0 0 0 Q 0 0 (hov h [(58, IA 570 (svI g0 f0 15 k))]) n 2 [some (.ref 36), some (.ref 58), some (.int 15), some (.int (nI k))] [] := by
  intro f
  induction f with
  | zero =>
    intro k  hk
    refine ew_iload_n (t := 3) dX4_saves_2 rfl rfl rfl ?_
    refine ew_aload_n (t := 4) dX4_saves_3 rfl rfl rfl ?_
    refine ew_alen (t := 5) (v := 7) mp (Nat.le_of_ble_eq_true rfl) rfl dX4_saves_4 rfl ?_
    refine ew_icmp_ge (t := 22) (t2 := 8) dX4_saves_5 rfl rfl (fun c_5 => ?_) (fun c_5 => ?_)
    · refine ew_iload_n (t := 23) dX4_saves_22 rfl rfl rfl ?_
      refine ew_aload_n (t := 24) dX4_saves_23 rfl rfl rfl ?_
      refine ew_alen (t := 25) (v := 7) mp (Nat.le_of_ble_eq_true rfl) rfl dX4_saves_24 rfl ?_
      refine ew_iadd (t := 26) dX4_saves_25 rfl ?_
      exact ew_iret rfl dX4_saves_26 (Nat.le_refl _) (Nat.le_refl _) (by rw [show k = 7 by omega]; exact hq)
    · exact absurd (show (7 : Int32) ≤ nI k by rw [show k = 7 by omega]; decide) c_5
  | succ f ih =>
    intro k  hk
    refine ew_iload_n (t := 3) dX4_saves_2 rfl rfl rfl ?_
    refine ew_aload_n (t := 4) dX4_saves_3 rfl rfl rfl ?_
    refine ew_alen (t := 5) (v := 7) mp (Nat.le_of_ble_eq_true rfl) rfl dX4_saves_4 rfl ?_
    refine ew_icmp_ge (t := 22) (t2 := 8) dX4_saves_5 rfl rfl (fun c_5 => ?_) (fun c_5 => ?_)
    · exact absurd c_5 (nI_ge (b := 7) (by omega) (by omega))
    · refine ew_aload_n (t := 9) dX4_saves_8 rfl rfl rfl ?_
      refine ew_iload_n (t := 10) dX4_saves_9 rfl rfl rfl ?_
      refine ew_iload_n (t := 11) dX4_saves_10 rfl rfl rfl ?_
      refine ew_iadd (t := 12) dX4_saves_11 rfl ?_
      rw [show (15 : Int32) + nI k = nI (15 + k) from nI_add 15 k]
      refine ew_aload_n (t := 13) dX4_saves_12 rfl rfl rfl ?_
      refine ew_iload_n (t := 14) dX4_saves_13 rfl rfl rfl ?_
      refine ew_iald (t := 15) (j := k) (N := 7) mp (vp_in_nI (by omega) (by omega)) (nI_clamp (by omega)) dX4_saves_14 rfl ?_
      refine ew_iast (t := 16) (j := (15 + k)) (N := 570) (h' := (hov h [(58, IA 570 (upd (svI g0 f0 15 k) (15 + k) (f0 k)))])) rfl (vp_in_nI (by omega) (by omega)) (nI_clamp (by omega)) dX4_saves_15 (hov_up rfl) rfl ?_
      refine ew_iinc (t := 19) (x := (nI k)) (v := ((nI k) + 1)) (L' := [some (.ref 36), some (.ref 58), some (.int 15), some (.int ((nI k) + 1))]) dX4_saves_16 rfl rfl (Nat.le_of_ble_eq_true rfl) rfl rfl ?_
      refine ew_goto (t := 2) dX4_saves_19 rfl ?_
      rw [nI_1]
      exact ih (k + 1) (by omega)
set_option maxHeartbeats 4000000 in
theorem mc_saves36 {l : Launch} {G : GW} {h : AH} {n : Nat} {s : Nat → Int32} {al : Int64} {F : Nat → Nat → Int32} {FL : Nat → Int64} (mc : MC s al F FL h) : AM l G yX4_saves cX4_saves 4 (some .int) 0 0 0 [.ref 36, .ref 58, .int 15] h n (SvQ s al (va_up F 58 (svI (F 58) (F 36) 15 7)) FL h n 22) := by
  refine AM.of (L := [some (.ref 36), some (.ref 58), some (.int 15), none]) (by decide) (Nat.le_of_ble_eq_true rfl) rfl ?_
  refine ew_ic0 (t := 1) dX4_saves_0 rfl ?_
  refine ew_istore_n (t := 2) (L' := [some (.ref 36), some (.ref 58), some (.int 15), some (.int 0)]) dX4_saves_1 rfl (Nat.le_of_ble_eq_true rfl) rfl rfl ?_
  refine EW.heap (h' := hov h [(58, IA 570 (F 58))]) (hov_same (h := h) (mI mc 58 rfl)).symm ?_
  exact lp_saves36 (mI mc 36 rfl) ⟨rfl, rfl, ovI rfl, MC_I (c := 58) rfl (l := []) mc⟩ 7 0 (by omega)
set_option maxHeartbeats 4000000 in
theorem lp_saves37 {l : Launch} {G : GW} {h : AH} {n : Nat} {f0 g0 : Nat → Int32} {Q : Option Value → AH → Nat → Prop} (mp : h 37 = some (IA 200 f0)) (hq : Q (some (.int 222)) (hov h [(58, IA 570 (svI g0 f0 22 200))]) n) : ∀ (f k : Nat), k + f = 200 → EW l G yX4_saves cX4_saves 4 (some .int) 0 0 0 Q 0 0 (hov h [(58, IA 570 (svI g0 f0 22 k))]) n 2 [some (.ref 37), some (.ref 58), some (.int 22), some (.int (nI k))] [] := by
  intro f
  induction f with
  | zero =>
    intro k  hk
    refine ew_iload_n (t := 3) dX4_saves_2 rfl rfl rfl ?_
    refine ew_aload_n (t := 4) dX4_saves_3 rfl rfl rfl ?_
    refine ew_alen (t := 5) (v := 200) mp (Nat.le_of_ble_eq_true rfl) rfl dX4_saves_4 rfl ?_
    refine ew_icmp_ge (t := 22) (t2 := 8) dX4_saves_5 rfl rfl (fun c_5 => ?_) (fun c_5 => ?_)
    · refine ew_iload_n (t := 23) dX4_saves_22 rfl rfl rfl ?_
      refine ew_aload_n (t := 24) dX4_saves_23 rfl rfl rfl ?_
      refine ew_alen (t := 25) (v := 200) mp (Nat.le_of_ble_eq_true rfl) rfl dX4_saves_24 rfl ?_
      refine ew_iadd (t := 26) dX4_saves_25 rfl ?_
      exact ew_iret rfl dX4_saves_26 (Nat.le_refl _) (Nat.le_refl _) (by rw [show k = 200 by omega]; exact hq)
    · exact absurd (show (200 : Int32) ≤ nI k by rw [show k = 200 by omega]; decide) c_5
  | succ f ih =>
    intro k  hk
    refine ew_iload_n (t := 3) dX4_saves_2 rfl rfl rfl ?_
    refine ew_aload_n (t := 4) dX4_saves_3 rfl rfl rfl ?_
    refine ew_alen (t := 5) (v := 200) mp (Nat.le_of_ble_eq_true rfl) rfl dX4_saves_4 rfl ?_
    refine ew_icmp_ge (t := 22) (t2 := 8) dX4_saves_5 rfl rfl (fun c_5 => ?_) (fun c_5 => ?_)
    · exact absurd c_5 (nI_ge (b := 200) (by omega) (by omega))
    · refine ew_aload_n (t := 9) dX4_saves_8 rfl rfl rfl ?_
      refine ew_iload_n (t := 10) dX4_saves_9 rfl rfl rfl ?_
      refine ew_iload_n (t := 11) dX4_saves_10 rfl rfl rfl ?_
      refine ew_iadd (t := 12) dX4_saves_11 rfl ?_
      rw [show (22 : Int32) + nI k = nI (22 + k) from nI_add 22 k]
      refine ew_aload_n (t := 13) dX4_saves_12 rfl rfl rfl ?_
      refine ew_iload_n (t := 14) dX4_saves_13 rfl rfl rfl ?_
      refine ew_iald (t := 15) (j := k) (N := 200) mp (vp_in_nI (by omega) (by omega)) (nI_clamp (by omega)) dX4_saves_14 rfl ?_
      refine ew_iast (t := 16) (j := (22 + k)) (N := 570) (h' := (hov h [(58, IA 570 (upd (svI g0 f0 22 k) (22 + k) (f0 k)))])) rfl (vp_in_nI (by omega) (by omega)) (nI_clamp (by omega)) dX4_saves_15 (hov_up rfl) rfl ?_
      refine ew_iinc (t := 19) (x := (nI k)) (v := ((nI k) + 1)) (L' := [some (.ref 37), some (.ref 58), some (.int 22), some (.int ((nI k) + 1))]) dX4_saves_16 rfl rfl (Nat.le_of_ble_eq_true rfl) rfl rfl ?_
      refine ew_goto (t := 2) dX4_saves_19 rfl ?_
      rw [nI_1]
      exact ih (k + 1) (by omega)
set_option maxHeartbeats 4000000 in
theorem mc_saves37 {l : Launch} {G : GW} {h : AH} {n : Nat} {s : Nat → Int32} {al : Int64} {F : Nat → Nat → Int32} {FL : Nat → Int64} (mc : MC s al F FL h) : AM l G yX4_saves cX4_saves 4 (some .int) 0 0 0 [.ref 37, .ref 58, .int 22] h n (SvQ s al (va_up F 58 (svI (F 58) (F 37) 22 200)) FL h n 222) := by
  refine AM.of (L := [some (.ref 37), some (.ref 58), some (.int 22), none]) (by decide) (Nat.le_of_ble_eq_true rfl) rfl ?_
  refine ew_ic0 (t := 1) dX4_saves_0 rfl ?_
  refine ew_istore_n (t := 2) (L' := [some (.ref 37), some (.ref 58), some (.int 22), some (.int 0)]) dX4_saves_1 rfl (Nat.le_of_ble_eq_true rfl) rfl rfl ?_
  refine EW.heap (h' := hov h [(58, IA 570 (F 58))]) (hov_same (h := h) (mI mc 58 rfl)).symm ?_
  exact lp_saves37 (mI mc 37 rfl) ⟨rfl, rfl, ovI rfl, MC_I (c := 58) rfl (l := []) mc⟩ 200 0 (by omega)
set_option maxHeartbeats 4000000 in
theorem lp_saves38 {l : Launch} {G : GW} {h : AH} {n : Nat} {f0 g0 : Nat → Int32} {Q : Option Value → AH → Nat → Prop} (mp : h 38 = some (IA 200 f0)) (hq : Q (some (.int 422)) (hov h [(58, IA 570 (svI g0 f0 222 200))]) n) : ∀ (f k : Nat), k + f = 200 → EW l G yX4_saves cX4_saves 4 (some .int) 0 0 0 Q 0 0 (hov h [(58, IA 570 (svI g0 f0 222 k))]) n 2 [some (.ref 38), some (.ref 58), some (.int 222), some (.int (nI k))] [] := by
  intro f
  induction f with
  | zero =>
    intro k  hk
    refine ew_iload_n (t := 3) dX4_saves_2 rfl rfl rfl ?_
    refine ew_aload_n (t := 4) dX4_saves_3 rfl rfl rfl ?_
    refine ew_alen (t := 5) (v := 200) mp (Nat.le_of_ble_eq_true rfl) rfl dX4_saves_4 rfl ?_
    refine ew_icmp_ge (t := 22) (t2 := 8) dX4_saves_5 rfl rfl (fun c_5 => ?_) (fun c_5 => ?_)
    · refine ew_iload_n (t := 23) dX4_saves_22 rfl rfl rfl ?_
      refine ew_aload_n (t := 24) dX4_saves_23 rfl rfl rfl ?_
      refine ew_alen (t := 25) (v := 200) mp (Nat.le_of_ble_eq_true rfl) rfl dX4_saves_24 rfl ?_
      refine ew_iadd (t := 26) dX4_saves_25 rfl ?_
      exact ew_iret rfl dX4_saves_26 (Nat.le_refl _) (Nat.le_refl _) (by rw [show k = 200 by omega]; exact hq)
    · exact absurd (show (200 : Int32) ≤ nI k by rw [show k = 200 by omega]; decide) c_5
  | succ f ih =>
    intro k  hk
    refine ew_iload_n (t := 3) dX4_saves_2 rfl rfl rfl ?_
    refine ew_aload_n (t := 4) dX4_saves_3 rfl rfl rfl ?_
    refine ew_alen (t := 5) (v := 200) mp (Nat.le_of_ble_eq_true rfl) rfl dX4_saves_4 rfl ?_
    refine ew_icmp_ge (t := 22) (t2 := 8) dX4_saves_5 rfl rfl (fun c_5 => ?_) (fun c_5 => ?_)
    · exact absurd c_5 (nI_ge (b := 200) (by omega) (by omega))
    · refine ew_aload_n (t := 9) dX4_saves_8 rfl rfl rfl ?_
      refine ew_iload_n (t := 10) dX4_saves_9 rfl rfl rfl ?_
      refine ew_iload_n (t := 11) dX4_saves_10 rfl rfl rfl ?_
      refine ew_iadd (t := 12) dX4_saves_11 rfl ?_
      rw [show (222 : Int32) + nI k = nI (222 + k) from nI_add 222 k]
      refine ew_aload_n (t := 13) dX4_saves_12 rfl rfl rfl ?_
      refine ew_iload_n (t := 14) dX4_saves_13 rfl rfl rfl ?_
      refine ew_iald (t := 15) (j := k) (N := 200) mp (vp_in_nI (by omega) (by omega)) (nI_clamp (by omega)) dX4_saves_14 rfl ?_
      refine ew_iast (t := 16) (j := (222 + k)) (N := 570) (h' := (hov h [(58, IA 570 (upd (svI g0 f0 222 k) (222 + k) (f0 k)))])) rfl (vp_in_nI (by omega) (by omega)) (nI_clamp (by omega)) dX4_saves_15 (hov_up rfl) rfl ?_
      refine ew_iinc (t := 19) (x := (nI k)) (v := ((nI k) + 1)) (L' := [some (.ref 38), some (.ref 58), some (.int 222), some (.int ((nI k) + 1))]) dX4_saves_16 rfl rfl (Nat.le_of_ble_eq_true rfl) rfl rfl ?_
      refine ew_goto (t := 2) dX4_saves_19 rfl ?_
      rw [nI_1]
      exact ih (k + 1) (by omega)
set_option maxHeartbeats 4000000 in
theorem mc_saves38 {l : Launch} {G : GW} {h : AH} {n : Nat} {s : Nat → Int32} {al : Int64} {F : Nat → Nat → Int32} {FL : Nat → Int64} (mc : MC s al F FL h) : AM l G yX4_saves cX4_saves 4 (some .int) 0 0 0 [.ref 38, .ref 58, .int 222] h n (SvQ s al (va_up F 58 (svI (F 58) (F 38) 222 200)) FL h n 422) := by
  refine AM.of (L := [some (.ref 38), some (.ref 58), some (.int 222), none]) (by decide) (Nat.le_of_ble_eq_true rfl) rfl ?_
  refine ew_ic0 (t := 1) dX4_saves_0 rfl ?_
  refine ew_istore_n (t := 2) (L' := [some (.ref 38), some (.ref 58), some (.int 222), some (.int 0)]) dX4_saves_1 rfl (Nat.le_of_ble_eq_true rfl) rfl rfl ?_
  refine EW.heap (h' := hov h [(58, IA 570 (F 58))]) (hov_same (h := h) (mI mc 58 rfl)).symm ?_
  exact lp_saves38 (mI mc 38 rfl) ⟨rfl, rfl, ovI rfl, MC_I (c := 58) rfl (l := []) mc⟩ 200 0 (by omega)
set_option maxHeartbeats 4000000 in
theorem lp_saves39 {l : Launch} {G : GW} {h : AH} {n : Nat} {f0 g0 : Nat → Int32} {Q : Option Value → AH → Nat → Prop} (mp : h 39 = some (IA 100 f0)) (hq : Q (some (.int 522)) (hov h [(58, IA 570 (svI g0 f0 422 100))]) n) : ∀ (f k : Nat), k + f = 100 → EW l G yX4_saves cX4_saves 4 (some .int) 0 0 0 Q 0 0 (hov h [(58, IA 570 (svI g0 f0 422 k))]) n 2 [some (.ref 39), some (.ref 58), some (.int 422), some (.int (nI k))] [] := by
  intro f
  induction f with
  | zero =>
    intro k  hk
    refine ew_iload_n (t := 3) dX4_saves_2 rfl rfl rfl ?_
    refine ew_aload_n (t := 4) dX4_saves_3 rfl rfl rfl ?_
    refine ew_alen (t := 5) (v := 100) mp (Nat.le_of_ble_eq_true rfl) rfl dX4_saves_4 rfl ?_
    refine ew_icmp_ge (t := 22) (t2 := 8) dX4_saves_5 rfl rfl (fun c_5 => ?_) (fun c_5 => ?_)
    · refine ew_iload_n (t := 23) dX4_saves_22 rfl rfl rfl ?_
      refine ew_aload_n (t := 24) dX4_saves_23 rfl rfl rfl ?_
      refine ew_alen (t := 25) (v := 100) mp (Nat.le_of_ble_eq_true rfl) rfl dX4_saves_24 rfl ?_
      refine ew_iadd (t := 26) dX4_saves_25 rfl ?_
      exact ew_iret rfl dX4_saves_26 (Nat.le_refl _) (Nat.le_refl _) (by rw [show k = 100 by omega]; exact hq)
    · exact absurd (show (100 : Int32) ≤ nI k by rw [show k = 100 by omega]; decide) c_5
  | succ f ih =>
    intro k  hk
    refine ew_iload_n (t := 3) dX4_saves_2 rfl rfl rfl ?_
    refine ew_aload_n (t := 4) dX4_saves_3 rfl rfl rfl ?_
    refine ew_alen (t := 5) (v := 100) mp (Nat.le_of_ble_eq_true rfl) rfl dX4_saves_4 rfl ?_
    refine ew_icmp_ge (t := 22) (t2 := 8) dX4_saves_5 rfl rfl (fun c_5 => ?_) (fun c_5 => ?_)
    · exact absurd c_5 (nI_ge (b := 100) (by omega) (by omega))
    · refine ew_aload_n (t := 9) dX4_saves_8 rfl rfl rfl ?_
      refine ew_iload_n (t := 10) dX4_saves_9 rfl rfl rfl ?_
      refine ew_iload_n (t := 11) dX4_saves_10 rfl rfl rfl ?_
      refine ew_iadd (t := 12) dX4_saves_11 rfl ?_
      rw [show (422 : Int32) + nI k = nI (422 + k) from nI_add 422 k]
      refine ew_aload_n (t := 13) dX4_saves_12 rfl rfl rfl ?_
      refine ew_iload_n (t := 14) dX4_saves_13 rfl rfl rfl ?_
      refine ew_iald (t := 15) (j := k) (N := 100) mp (vp_in_nI (by omega) (by omega)) (nI_clamp (by omega)) dX4_saves_14 rfl ?_
      refine ew_iast (t := 16) (j := (422 + k)) (N := 570) (h' := (hov h [(58, IA 570 (upd (svI g0 f0 422 k) (422 + k) (f0 k)))])) rfl (vp_in_nI (by omega) (by omega)) (nI_clamp (by omega)) dX4_saves_15 (hov_up rfl) rfl ?_
      refine ew_iinc (t := 19) (x := (nI k)) (v := ((nI k) + 1)) (L' := [some (.ref 39), some (.ref 58), some (.int 422), some (.int ((nI k) + 1))]) dX4_saves_16 rfl rfl (Nat.le_of_ble_eq_true rfl) rfl rfl ?_
      refine ew_goto (t := 2) dX4_saves_19 rfl ?_
      rw [nI_1]
      exact ih (k + 1) (by omega)
set_option maxHeartbeats 4000000 in
theorem mc_saves39 {l : Launch} {G : GW} {h : AH} {n : Nat} {s : Nat → Int32} {al : Int64} {F : Nat → Nat → Int32} {FL : Nat → Int64} (mc : MC s al F FL h) : AM l G yX4_saves cX4_saves 4 (some .int) 0 0 0 [.ref 39, .ref 58, .int 422] h n (SvQ s al (va_up F 58 (svI (F 58) (F 39) 422 100)) FL h n 522) := by
  refine AM.of (L := [some (.ref 39), some (.ref 58), some (.int 422), none]) (by decide) (Nat.le_of_ble_eq_true rfl) rfl ?_
  refine ew_ic0 (t := 1) dX4_saves_0 rfl ?_
  refine ew_istore_n (t := 2) (L' := [some (.ref 39), some (.ref 58), some (.int 422), some (.int 0)]) dX4_saves_1 rfl (Nat.le_of_ble_eq_true rfl) rfl rfl ?_
  refine EW.heap (h' := hov h [(58, IA 570 (F 58))]) (hov_same (h := h) (mI mc 58 rfl)).symm ?_
  exact lp_saves39 (mI mc 39 rfl) ⟨rfl, rfl, ovI rfl, MC_I (c := 58) rfl (l := []) mc⟩ 100 0 (by omega)
set_option maxHeartbeats 4000000 in
theorem lp_saves52 {l : Launch} {G : GW} {h : AH} {n : Nat} {f0 g0 : Nat → Int32} {Q : Option Value → AH → Nat → Prop} (mp : h 52 = some (IA 20 f0)) (hq : Q (some (.int 542)) (hov h [(58, IA 570 (svI g0 f0 522 20))]) n) : ∀ (f k : Nat), k + f = 20 → EW l G yX4_saves cX4_saves 4 (some .int) 0 0 0 Q 0 0 (hov h [(58, IA 570 (svI g0 f0 522 k))]) n 2 [some (.ref 52), some (.ref 58), some (.int 522), some (.int (nI k))] [] := by
  intro f
  induction f with
  | zero =>
    intro k  hk
    refine ew_iload_n (t := 3) dX4_saves_2 rfl rfl rfl ?_
    refine ew_aload_n (t := 4) dX4_saves_3 rfl rfl rfl ?_
    refine ew_alen (t := 5) (v := 20) mp (Nat.le_of_ble_eq_true rfl) rfl dX4_saves_4 rfl ?_
    refine ew_icmp_ge (t := 22) (t2 := 8) dX4_saves_5 rfl rfl (fun c_5 => ?_) (fun c_5 => ?_)
    · refine ew_iload_n (t := 23) dX4_saves_22 rfl rfl rfl ?_
      refine ew_aload_n (t := 24) dX4_saves_23 rfl rfl rfl ?_
      refine ew_alen (t := 25) (v := 20) mp (Nat.le_of_ble_eq_true rfl) rfl dX4_saves_24 rfl ?_
      refine ew_iadd (t := 26) dX4_saves_25 rfl ?_
      exact ew_iret rfl dX4_saves_26 (Nat.le_refl _) (Nat.le_refl _) (by rw [show k = 20 by omega]; exact hq)
    · exact absurd (show (20 : Int32) ≤ nI k by rw [show k = 20 by omega]; decide) c_5
  | succ f ih =>
    intro k  hk
    refine ew_iload_n (t := 3) dX4_saves_2 rfl rfl rfl ?_
    refine ew_aload_n (t := 4) dX4_saves_3 rfl rfl rfl ?_
    refine ew_alen (t := 5) (v := 20) mp (Nat.le_of_ble_eq_true rfl) rfl dX4_saves_4 rfl ?_
    refine ew_icmp_ge (t := 22) (t2 := 8) dX4_saves_5 rfl rfl (fun c_5 => ?_) (fun c_5 => ?_)
    · exact absurd c_5 (nI_ge (b := 20) (by omega) (by omega))
    · refine ew_aload_n (t := 9) dX4_saves_8 rfl rfl rfl ?_
      refine ew_iload_n (t := 10) dX4_saves_9 rfl rfl rfl ?_
      refine ew_iload_n (t := 11) dX4_saves_10 rfl rfl rfl ?_
      refine ew_iadd (t := 12) dX4_saves_11 rfl ?_
      rw [show (522 : Int32) + nI k = nI (522 + k) from nI_add 522 k]
      refine ew_aload_n (t := 13) dX4_saves_12 rfl rfl rfl ?_
      refine ew_iload_n (t := 14) dX4_saves_13 rfl rfl rfl ?_
      refine ew_iald (t := 15) (j := k) (N := 20) mp (vp_in_nI (by omega) (by omega)) (nI_clamp (by omega)) dX4_saves_14 rfl ?_
      refine ew_iast (t := 16) (j := (522 + k)) (N := 570) (h' := (hov h [(58, IA 570 (upd (svI g0 f0 522 k) (522 + k) (f0 k)))])) rfl (vp_in_nI (by omega) (by omega)) (nI_clamp (by omega)) dX4_saves_15 (hov_up rfl) rfl ?_
      refine ew_iinc (t := 19) (x := (nI k)) (v := ((nI k) + 1)) (L' := [some (.ref 52), some (.ref 58), some (.int 522), some (.int ((nI k) + 1))]) dX4_saves_16 rfl rfl (Nat.le_of_ble_eq_true rfl) rfl rfl ?_
      refine ew_goto (t := 2) dX4_saves_19 rfl ?_
      rw [nI_1]
      exact ih (k + 1) (by omega)
set_option maxHeartbeats 4000000 in
theorem mc_saves52 {l : Launch} {G : GW} {h : AH} {n : Nat} {s : Nat → Int32} {al : Int64} {F : Nat → Nat → Int32} {FL : Nat → Int64} (mc : MC s al F FL h) : AM l G yX4_saves cX4_saves 4 (some .int) 0 0 0 [.ref 52, .ref 58, .int 522] h n (SvQ s al (va_up F 58 (svI (F 58) (F 52) 522 20)) FL h n 542) := by
  refine AM.of (L := [some (.ref 52), some (.ref 58), some (.int 522), none]) (by decide) (Nat.le_of_ble_eq_true rfl) rfl ?_
  refine ew_ic0 (t := 1) dX4_saves_0 rfl ?_
  refine ew_istore_n (t := 2) (L' := [some (.ref 52), some (.ref 58), some (.int 522), some (.int 0)]) dX4_saves_1 rfl (Nat.le_of_ble_eq_true rfl) rfl rfl ?_
  refine EW.heap (h' := hov h [(58, IA 570 (F 58))]) (hov_same (h := h) (mI mc 58 rfl)).symm ?_
  exact lp_saves52 (mI mc 52 rfl) ⟨rfl, rfl, ovI rfl, MC_I (c := 58) rfl (l := []) mc⟩ 20 0 (by omega)
set_option maxHeartbeats 4000000 in
theorem lp_saves53 {l : Launch} {G : GW} {h : AH} {n : Nat} {f0 g0 : Nat → Int32} {Q : Option Value → AH → Nat → Prop} (mp : h 53 = some (IA 6 f0)) (hq : Q (some (.int 548)) (hov h [(58, IA 570 (svI g0 f0 542 6))]) n) : ∀ (f k : Nat), k + f = 6 → EW l G yX4_saves cX4_saves 4 (some .int) 0 0 0 Q 0 0 (hov h [(58, IA 570 (svI g0 f0 542 k))]) n 2 [some (.ref 53), some (.ref 58), some (.int 542), some (.int (nI k))] [] := by
  intro f
  induction f with
  | zero =>
    intro k  hk
    refine ew_iload_n (t := 3) dX4_saves_2 rfl rfl rfl ?_
    refine ew_aload_n (t := 4) dX4_saves_3 rfl rfl rfl ?_
    refine ew_alen (t := 5) (v := 6) mp (Nat.le_of_ble_eq_true rfl) rfl dX4_saves_4 rfl ?_
    refine ew_icmp_ge (t := 22) (t2 := 8) dX4_saves_5 rfl rfl (fun c_5 => ?_) (fun c_5 => ?_)
    · refine ew_iload_n (t := 23) dX4_saves_22 rfl rfl rfl ?_
      refine ew_aload_n (t := 24) dX4_saves_23 rfl rfl rfl ?_
      refine ew_alen (t := 25) (v := 6) mp (Nat.le_of_ble_eq_true rfl) rfl dX4_saves_24 rfl ?_
      refine ew_iadd (t := 26) dX4_saves_25 rfl ?_
      exact ew_iret rfl dX4_saves_26 (Nat.le_refl _) (Nat.le_refl _) (by rw [show k = 6 by omega]; exact hq)
    · exact absurd (show (6 : Int32) ≤ nI k by rw [show k = 6 by omega]; decide) c_5
  | succ f ih =>
    intro k  hk
    refine ew_iload_n (t := 3) dX4_saves_2 rfl rfl rfl ?_
    refine ew_aload_n (t := 4) dX4_saves_3 rfl rfl rfl ?_
    refine ew_alen (t := 5) (v := 6) mp (Nat.le_of_ble_eq_true rfl) rfl dX4_saves_4 rfl ?_
    refine ew_icmp_ge (t := 22) (t2 := 8) dX4_saves_5 rfl rfl (fun c_5 => ?_) (fun c_5 => ?_)
    · exact absurd c_5 (nI_ge (b := 6) (by omega) (by omega))
    · refine ew_aload_n (t := 9) dX4_saves_8 rfl rfl rfl ?_
      refine ew_iload_n (t := 10) dX4_saves_9 rfl rfl rfl ?_
      refine ew_iload_n (t := 11) dX4_saves_10 rfl rfl rfl ?_
      refine ew_iadd (t := 12) dX4_saves_11 rfl ?_
      rw [show (542 : Int32) + nI k = nI (542 + k) from nI_add 542 k]
      refine ew_aload_n (t := 13) dX4_saves_12 rfl rfl rfl ?_
      refine ew_iload_n (t := 14) dX4_saves_13 rfl rfl rfl ?_
      refine ew_iald (t := 15) (j := k) (N := 6) mp (vp_in_nI (by omega) (by omega)) (nI_clamp (by omega)) dX4_saves_14 rfl ?_
      refine ew_iast (t := 16) (j := (542 + k)) (N := 570) (h' := (hov h [(58, IA 570 (upd (svI g0 f0 542 k) (542 + k) (f0 k)))])) rfl (vp_in_nI (by omega) (by omega)) (nI_clamp (by omega)) dX4_saves_15 (hov_up rfl) rfl ?_
      refine ew_iinc (t := 19) (x := (nI k)) (v := ((nI k) + 1)) (L' := [some (.ref 53), some (.ref 58), some (.int 542), some (.int ((nI k) + 1))]) dX4_saves_16 rfl rfl (Nat.le_of_ble_eq_true rfl) rfl rfl ?_
      refine ew_goto (t := 2) dX4_saves_19 rfl ?_
      rw [nI_1]
      exact ih (k + 1) (by omega)
set_option maxHeartbeats 4000000 in
theorem mc_saves53 {l : Launch} {G : GW} {h : AH} {n : Nat} {s : Nat → Int32} {al : Int64} {F : Nat → Nat → Int32} {FL : Nat → Int64} (mc : MC s al F FL h) : AM l G yX4_saves cX4_saves 4 (some .int) 0 0 0 [.ref 53, .ref 58, .int 542] h n (SvQ s al (va_up F 58 (svI (F 58) (F 53) 542 6)) FL h n 548) := by
  refine AM.of (L := [some (.ref 53), some (.ref 58), some (.int 542), none]) (by decide) (Nat.le_of_ble_eq_true rfl) rfl ?_
  refine ew_ic0 (t := 1) dX4_saves_0 rfl ?_
  refine ew_istore_n (t := 2) (L' := [some (.ref 53), some (.ref 58), some (.int 542), some (.int 0)]) dX4_saves_1 rfl (Nat.le_of_ble_eq_true rfl) rfl rfl ?_
  refine EW.heap (h' := hov h [(58, IA 570 (F 58))]) (hov_same (h := h) (mI mc 58 rfl)).symm ?_
  exact lp_saves53 (mI mc 53 rfl) ⟨rfl, rfl, ovI rfl, MC_I (c := 58) rfl (l := []) mc⟩ 6 0 (by omega)
set_option maxHeartbeats 4000000 in
theorem lp_saves54 {l : Launch} {G : GW} {h : AH} {n : Nat} {f0 g0 : Nat → Int32} {Q : Option Value → AH → Nat → Prop} (mp : h 54 = some (IA 6 f0)) (hq : Q (some (.int 554)) (hov h [(58, IA 570 (svI g0 f0 548 6))]) n) : ∀ (f k : Nat), k + f = 6 → EW l G yX4_saves cX4_saves 4 (some .int) 0 0 0 Q 0 0 (hov h [(58, IA 570 (svI g0 f0 548 k))]) n 2 [some (.ref 54), some (.ref 58), some (.int 548), some (.int (nI k))] [] := by
  intro f
  induction f with
  | zero =>
    intro k  hk
    refine ew_iload_n (t := 3) dX4_saves_2 rfl rfl rfl ?_
    refine ew_aload_n (t := 4) dX4_saves_3 rfl rfl rfl ?_
    refine ew_alen (t := 5) (v := 6) mp (Nat.le_of_ble_eq_true rfl) rfl dX4_saves_4 rfl ?_
    refine ew_icmp_ge (t := 22) (t2 := 8) dX4_saves_5 rfl rfl (fun c_5 => ?_) (fun c_5 => ?_)
    · refine ew_iload_n (t := 23) dX4_saves_22 rfl rfl rfl ?_
      refine ew_aload_n (t := 24) dX4_saves_23 rfl rfl rfl ?_
      refine ew_alen (t := 25) (v := 6) mp (Nat.le_of_ble_eq_true rfl) rfl dX4_saves_24 rfl ?_
      refine ew_iadd (t := 26) dX4_saves_25 rfl ?_
      exact ew_iret rfl dX4_saves_26 (Nat.le_refl _) (Nat.le_refl _) (by rw [show k = 6 by omega]; exact hq)
    · exact absurd (show (6 : Int32) ≤ nI k by rw [show k = 6 by omega]; decide) c_5
  | succ f ih =>
    intro k  hk
    refine ew_iload_n (t := 3) dX4_saves_2 rfl rfl rfl ?_
    refine ew_aload_n (t := 4) dX4_saves_3 rfl rfl rfl ?_
    refine ew_alen (t := 5) (v := 6) mp (Nat.le_of_ble_eq_true rfl) rfl dX4_saves_4 rfl ?_
    refine ew_icmp_ge (t := 22) (t2 := 8) dX4_saves_5 rfl rfl (fun c_5 => ?_) (fun c_5 => ?_)
    · exact absurd c_5 (nI_ge (b := 6) (by omega) (by omega))
    · refine ew_aload_n (t := 9) dX4_saves_8 rfl rfl rfl ?_
      refine ew_iload_n (t := 10) dX4_saves_9 rfl rfl rfl ?_
      refine ew_iload_n (t := 11) dX4_saves_10 rfl rfl rfl ?_
      refine ew_iadd (t := 12) dX4_saves_11 rfl ?_
      rw [show (548 : Int32) + nI k = nI (548 + k) from nI_add 548 k]
      refine ew_aload_n (t := 13) dX4_saves_12 rfl rfl rfl ?_
      refine ew_iload_n (t := 14) dX4_saves_13 rfl rfl rfl ?_
      refine ew_iald (t := 15) (j := k) (N := 6) mp (vp_in_nI (by omega) (by omega)) (nI_clamp (by omega)) dX4_saves_14 rfl ?_
      refine ew_iast (t := 16) (j := (548 + k)) (N := 570) (h' := (hov h [(58, IA 570 (upd (svI g0 f0 548 k) (548 + k) (f0 k)))])) rfl (vp_in_nI (by omega) (by omega)) (nI_clamp (by omega)) dX4_saves_15 (hov_up rfl) rfl ?_
      refine ew_iinc (t := 19) (x := (nI k)) (v := ((nI k) + 1)) (L' := [some (.ref 54), some (.ref 58), some (.int 548), some (.int ((nI k) + 1))]) dX4_saves_16 rfl rfl (Nat.le_of_ble_eq_true rfl) rfl rfl ?_
      refine ew_goto (t := 2) dX4_saves_19 rfl ?_
      rw [nI_1]
      exact ih (k + 1) (by omega)
set_option maxHeartbeats 4000000 in
theorem mc_saves54 {l : Launch} {G : GW} {h : AH} {n : Nat} {s : Nat → Int32} {al : Int64} {F : Nat → Nat → Int32} {FL : Nat → Int64} (mc : MC s al F FL h) : AM l G yX4_saves cX4_saves 4 (some .int) 0 0 0 [.ref 54, .ref 58, .int 548] h n (SvQ s al (va_up F 58 (svI (F 58) (F 54) 548 6)) FL h n 554) := by
  refine AM.of (L := [some (.ref 54), some (.ref 58), some (.int 548), none]) (by decide) (Nat.le_of_ble_eq_true rfl) rfl ?_
  refine ew_ic0 (t := 1) dX4_saves_0 rfl ?_
  refine ew_istore_n (t := 2) (L' := [some (.ref 54), some (.ref 58), some (.int 548), some (.int 0)]) dX4_saves_1 rfl (Nat.le_of_ble_eq_true rfl) rfl rfl ?_
  refine EW.heap (h' := hov h [(58, IA 570 (F 58))]) (hov_same (h := h) (mI mc 58 rfl)).symm ?_
  exact lp_saves54 (mI mc 54 rfl) ⟨rfl, rfl, ovI rfl, MC_I (c := 58) rfl (l := []) mc⟩ 6 0 (by omega)
set_option maxHeartbeats 4000000 in
theorem lp_gives34 {l : Launch} {G : GW} {h : AH} {n : Nat} {f0 g0 : Nat → Int32} {Q : Option Value → AH → Nat → Prop} (mp : h 58 = some (IA 570 f0)) (hq : Q (some (.int 8)) (hov h [(34, IA 8 (gvI g0 f0 0 8))]) n) : ∀ (f k : Nat), k + f = 8 → EW l G yX4_gives cX4_gives 4 (some .int) 0 0 0 Q 0 0 (hov h [(34, IA 8 (gvI g0 f0 0 k))]) n 2 [some (.ref 58), some (.int 0), some (.ref 34), some (.int (nI k))] [] := by
  intro f
  induction f with
  | zero =>
    intro k  hk
    refine ew_iload_n (t := 3) dX4_gives_2 rfl rfl rfl ?_
    refine ew_aload_n (t := 4) dX4_gives_3 rfl rfl rfl ?_
    refine ew_alen (t := 5) (v := 8) rfl (Nat.le_of_ble_eq_true rfl) rfl dX4_gives_4 rfl ?_
    refine ew_icmp_ge (t := 22) (t2 := 8) dX4_gives_5 rfl rfl (fun c_5 => ?_) (fun c_5 => ?_)
    · refine ew_iload_n (t := 23) dX4_gives_22 rfl rfl rfl ?_
      refine ew_aload_n (t := 24) dX4_gives_23 rfl rfl rfl ?_
      refine ew_alen (t := 25) (v := 8) rfl (Nat.le_of_ble_eq_true rfl) rfl dX4_gives_24 rfl ?_
      refine ew_iadd (t := 26) dX4_gives_25 rfl ?_
      exact ew_iret rfl dX4_gives_26 (Nat.le_refl _) (Nat.le_refl _) (by rw [show k = 8 by omega]; exact hq)
    · exact absurd (show (8 : Int32) ≤ nI k by rw [show k = 8 by omega]; decide) c_5
  | succ f ih =>
    intro k  hk
    refine ew_iload_n (t := 3) dX4_gives_2 rfl rfl rfl ?_
    refine ew_aload_n (t := 4) dX4_gives_3 rfl rfl rfl ?_
    refine ew_alen (t := 5) (v := 8) rfl (Nat.le_of_ble_eq_true rfl) rfl dX4_gives_4 rfl ?_
    refine ew_icmp_ge (t := 22) (t2 := 8) dX4_gives_5 rfl rfl (fun c_5 => ?_) (fun c_5 => ?_)
    · exact absurd c_5 (nI_ge (b := 8) (by omega) (by omega))
    · refine ew_aload_n (t := 9) dX4_gives_8 rfl rfl rfl ?_
      refine ew_iload_n (t := 10) dX4_gives_9 rfl rfl rfl ?_
      refine ew_aload_n (t := 11) dX4_gives_10 rfl rfl rfl ?_
      refine ew_iload_n (t := 12) dX4_gives_11 rfl rfl rfl ?_
      refine ew_iload_n (t := 13) dX4_gives_12 rfl rfl rfl ?_
      refine ew_iadd (t := 14) dX4_gives_13 rfl ?_
      rw [show (0 : Int32) + nI k = nI (0 + k) from nI_add 0 k]
      refine ew_iald (t := 15) (j := (0 + k)) (N := 570) mp (vp_in_nI (by omega) (by omega)) (nI_clamp (by omega)) dX4_gives_14 rfl ?_
      refine ew_iast (t := 16) (j := k) (N := 8) (h' := (hov h [(34, IA 8 (upd (gvI g0 f0 0 k) k (f0 (0 + k))))])) rfl (vp_in_nI (by omega) (by omega)) (nI_clamp (by omega)) dX4_gives_15 (hov_up rfl) rfl ?_
      refine ew_iinc (t := 19) (x := (nI k)) (v := ((nI k) + 1)) (L' := [some (.ref 58), some (.int 0), some (.ref 34), some (.int ((nI k) + 1))]) dX4_gives_16 rfl rfl (Nat.le_of_ble_eq_true rfl) rfl rfl ?_
      refine ew_goto (t := 2) dX4_gives_19 rfl ?_
      rw [nI_1]
      exact ih (k + 1) (by omega)
set_option maxHeartbeats 4000000 in
theorem mc_gives34 {l : Launch} {G : GW} {h : AH} {n : Nat} {s : Nat → Int32} {al : Int64} {F : Nat → Nat → Int32} {FL : Nat → Int64} (mc : MC s al F FL h) : AM l G yX4_gives cX4_gives 4 (some .int) 0 0 0 [.ref 58, .int 0, .ref 34] h n (SvQ s al (va_up F 34 (gvI (F 34) (F 58) 0 8)) FL h n 8) := by
  refine AM.of (L := [some (.ref 58), some (.int 0), some (.ref 34), none]) (by decide) (Nat.le_of_ble_eq_true rfl) rfl ?_
  refine ew_ic0 (t := 1) dX4_gives_0 rfl ?_
  refine ew_istore_n (t := 2) (L' := [some (.ref 58), some (.int 0), some (.ref 34), some (.int 0)]) dX4_gives_1 rfl (Nat.le_of_ble_eq_true rfl) rfl rfl ?_
  refine EW.heap (h' := hov h [(34, IA 8 (F 34))]) (hov_same (h := h) (mI mc 34 rfl)).symm ?_
  exact lp_gives34 (mI mc 58 rfl) ⟨rfl, rfl, ovI rfl, MC_I (c := 34) rfl (l := []) mc⟩ 8 0 (by omega)
set_option maxHeartbeats 4000000 in
theorem lp_gives35 {l : Launch} {G : GW} {h : AH} {n : Nat} {f0 g0 : Nat → Int32} {Q : Option Value → AH → Nat → Prop} (mp : h 58 = some (IA 570 f0)) (hq : Q (some (.int 15)) (hov h [(35, IA 7 (gvI g0 f0 8 7))]) n) : ∀ (f k : Nat), k + f = 7 → EW l G yX4_gives cX4_gives 4 (some .int) 0 0 0 Q 0 0 (hov h [(35, IA 7 (gvI g0 f0 8 k))]) n 2 [some (.ref 58), some (.int 8), some (.ref 35), some (.int (nI k))] [] := by
  intro f
  induction f with
  | zero =>
    intro k  hk
    refine ew_iload_n (t := 3) dX4_gives_2 rfl rfl rfl ?_
    refine ew_aload_n (t := 4) dX4_gives_3 rfl rfl rfl ?_
    refine ew_alen (t := 5) (v := 7) rfl (Nat.le_of_ble_eq_true rfl) rfl dX4_gives_4 rfl ?_
    refine ew_icmp_ge (t := 22) (t2 := 8) dX4_gives_5 rfl rfl (fun c_5 => ?_) (fun c_5 => ?_)
    · refine ew_iload_n (t := 23) dX4_gives_22 rfl rfl rfl ?_
      refine ew_aload_n (t := 24) dX4_gives_23 rfl rfl rfl ?_
      refine ew_alen (t := 25) (v := 7) rfl (Nat.le_of_ble_eq_true rfl) rfl dX4_gives_24 rfl ?_
      refine ew_iadd (t := 26) dX4_gives_25 rfl ?_
      exact ew_iret rfl dX4_gives_26 (Nat.le_refl _) (Nat.le_refl _) (by rw [show k = 7 by omega]; exact hq)
    · exact absurd (show (7 : Int32) ≤ nI k by rw [show k = 7 by omega]; decide) c_5
  | succ f ih =>
    intro k  hk
    refine ew_iload_n (t := 3) dX4_gives_2 rfl rfl rfl ?_
    refine ew_aload_n (t := 4) dX4_gives_3 rfl rfl rfl ?_
    refine ew_alen (t := 5) (v := 7) rfl (Nat.le_of_ble_eq_true rfl) rfl dX4_gives_4 rfl ?_
    refine ew_icmp_ge (t := 22) (t2 := 8) dX4_gives_5 rfl rfl (fun c_5 => ?_) (fun c_5 => ?_)
    · exact absurd c_5 (nI_ge (b := 7) (by omega) (by omega))
    · refine ew_aload_n (t := 9) dX4_gives_8 rfl rfl rfl ?_
      refine ew_iload_n (t := 10) dX4_gives_9 rfl rfl rfl ?_
      refine ew_aload_n (t := 11) dX4_gives_10 rfl rfl rfl ?_
      refine ew_iload_n (t := 12) dX4_gives_11 rfl rfl rfl ?_
      refine ew_iload_n (t := 13) dX4_gives_12 rfl rfl rfl ?_
      refine ew_iadd (t := 14) dX4_gives_13 rfl ?_
      rw [show (8 : Int32) + nI k = nI (8 + k) from nI_add 8 k]
      refine ew_iald (t := 15) (j := (8 + k)) (N := 570) mp (vp_in_nI (by omega) (by omega)) (nI_clamp (by omega)) dX4_gives_14 rfl ?_
      refine ew_iast (t := 16) (j := k) (N := 7) (h' := (hov h [(35, IA 7 (upd (gvI g0 f0 8 k) k (f0 (8 + k))))])) rfl (vp_in_nI (by omega) (by omega)) (nI_clamp (by omega)) dX4_gives_15 (hov_up rfl) rfl ?_
      refine ew_iinc (t := 19) (x := (nI k)) (v := ((nI k) + 1)) (L' := [some (.ref 58), some (.int 8), some (.ref 35), some (.int ((nI k) + 1))]) dX4_gives_16 rfl rfl (Nat.le_of_ble_eq_true rfl) rfl rfl ?_
      refine ew_goto (t := 2) dX4_gives_19 rfl ?_
      rw [nI_1]
      exact ih (k + 1) (by omega)
set_option maxHeartbeats 4000000 in
theorem mc_gives35 {l : Launch} {G : GW} {h : AH} {n : Nat} {s : Nat → Int32} {al : Int64} {F : Nat → Nat → Int32} {FL : Nat → Int64} (mc : MC s al F FL h) : AM l G yX4_gives cX4_gives 4 (some .int) 0 0 0 [.ref 58, .int 8, .ref 35] h n (SvQ s al (va_up F 35 (gvI (F 35) (F 58) 8 7)) FL h n 15) := by
  refine AM.of (L := [some (.ref 58), some (.int 8), some (.ref 35), none]) (by decide) (Nat.le_of_ble_eq_true rfl) rfl ?_
  refine ew_ic0 (t := 1) dX4_gives_0 rfl ?_
  refine ew_istore_n (t := 2) (L' := [some (.ref 58), some (.int 8), some (.ref 35), some (.int 0)]) dX4_gives_1 rfl (Nat.le_of_ble_eq_true rfl) rfl rfl ?_
  refine EW.heap (h' := hov h [(35, IA 7 (F 35))]) (hov_same (h := h) (mI mc 35 rfl)).symm ?_
  exact lp_gives35 (mI mc 58 rfl) ⟨rfl, rfl, ovI rfl, MC_I (c := 35) rfl (l := []) mc⟩ 7 0 (by omega)
set_option maxHeartbeats 4000000 in
theorem lp_gives36 {l : Launch} {G : GW} {h : AH} {n : Nat} {f0 g0 : Nat → Int32} {Q : Option Value → AH → Nat → Prop} (mp : h 58 = some (IA 570 f0)) (hq : Q (some (.int 22)) (hov h [(36, IA 7 (gvI g0 f0 15 7))]) n) : ∀ (f k : Nat), k + f = 7 → EW l G yX4_gives cX4_gives 4 (some .int) 0 0 0 Q 0 0 (hov h [(36, IA 7 (gvI g0 f0 15 k))]) n 2 [some (.ref 58), some (.int 15), some (.ref 36), some (.int (nI k))] [] := by
  intro f
  induction f with
  | zero =>
    intro k  hk
    refine ew_iload_n (t := 3) dX4_gives_2 rfl rfl rfl ?_
    refine ew_aload_n (t := 4) dX4_gives_3 rfl rfl rfl ?_
    refine ew_alen (t := 5) (v := 7) rfl (Nat.le_of_ble_eq_true rfl) rfl dX4_gives_4 rfl ?_
    refine ew_icmp_ge (t := 22) (t2 := 8) dX4_gives_5 rfl rfl (fun c_5 => ?_) (fun c_5 => ?_)
    · refine ew_iload_n (t := 23) dX4_gives_22 rfl rfl rfl ?_
      refine ew_aload_n (t := 24) dX4_gives_23 rfl rfl rfl ?_
      refine ew_alen (t := 25) (v := 7) rfl (Nat.le_of_ble_eq_true rfl) rfl dX4_gives_24 rfl ?_
      refine ew_iadd (t := 26) dX4_gives_25 rfl ?_
      exact ew_iret rfl dX4_gives_26 (Nat.le_refl _) (Nat.le_refl _) (by rw [show k = 7 by omega]; exact hq)
    · exact absurd (show (7 : Int32) ≤ nI k by rw [show k = 7 by omega]; decide) c_5
  | succ f ih =>
    intro k  hk
    refine ew_iload_n (t := 3) dX4_gives_2 rfl rfl rfl ?_
    refine ew_aload_n (t := 4) dX4_gives_3 rfl rfl rfl ?_
    refine ew_alen (t := 5) (v := 7) rfl (Nat.le_of_ble_eq_true rfl) rfl dX4_gives_4 rfl ?_
    refine ew_icmp_ge (t := 22) (t2 := 8) dX4_gives_5 rfl rfl (fun c_5 => ?_) (fun c_5 => ?_)
    · exact absurd c_5 (nI_ge (b := 7) (by omega) (by omega))
    · refine ew_aload_n (t := 9) dX4_gives_8 rfl rfl rfl ?_
      refine ew_iload_n (t := 10) dX4_gives_9 rfl rfl rfl ?_
      refine ew_aload_n (t := 11) dX4_gives_10 rfl rfl rfl ?_
      refine ew_iload_n (t := 12) dX4_gives_11 rfl rfl rfl ?_
      refine ew_iload_n (t := 13) dX4_gives_12 rfl rfl rfl ?_
      refine ew_iadd (t := 14) dX4_gives_13 rfl ?_
      rw [show (15 : Int32) + nI k = nI (15 + k) from nI_add 15 k]
      refine ew_iald (t := 15) (j := (15 + k)) (N := 570) mp (vp_in_nI (by omega) (by omega)) (nI_clamp (by omega)) dX4_gives_14 rfl ?_
      refine ew_iast (t := 16) (j := k) (N := 7) (h' := (hov h [(36, IA 7 (upd (gvI g0 f0 15 k) k (f0 (15 + k))))])) rfl (vp_in_nI (by omega) (by omega)) (nI_clamp (by omega)) dX4_gives_15 (hov_up rfl) rfl ?_
      refine ew_iinc (t := 19) (x := (nI k)) (v := ((nI k) + 1)) (L' := [some (.ref 58), some (.int 15), some (.ref 36), some (.int ((nI k) + 1))]) dX4_gives_16 rfl rfl (Nat.le_of_ble_eq_true rfl) rfl rfl ?_
      refine ew_goto (t := 2) dX4_gives_19 rfl ?_
      rw [nI_1]
      exact ih (k + 1) (by omega)
set_option maxHeartbeats 4000000 in
theorem mc_gives36 {l : Launch} {G : GW} {h : AH} {n : Nat} {s : Nat → Int32} {al : Int64} {F : Nat → Nat → Int32} {FL : Nat → Int64} (mc : MC s al F FL h) : AM l G yX4_gives cX4_gives 4 (some .int) 0 0 0 [.ref 58, .int 15, .ref 36] h n (SvQ s al (va_up F 36 (gvI (F 36) (F 58) 15 7)) FL h n 22) := by
  refine AM.of (L := [some (.ref 58), some (.int 15), some (.ref 36), none]) (by decide) (Nat.le_of_ble_eq_true rfl) rfl ?_
  refine ew_ic0 (t := 1) dX4_gives_0 rfl ?_
  refine ew_istore_n (t := 2) (L' := [some (.ref 58), some (.int 15), some (.ref 36), some (.int 0)]) dX4_gives_1 rfl (Nat.le_of_ble_eq_true rfl) rfl rfl ?_
  refine EW.heap (h' := hov h [(36, IA 7 (F 36))]) (hov_same (h := h) (mI mc 36 rfl)).symm ?_
  exact lp_gives36 (mI mc 58 rfl) ⟨rfl, rfl, ovI rfl, MC_I (c := 36) rfl (l := []) mc⟩ 7 0 (by omega)
set_option maxHeartbeats 4000000 in
theorem lp_gives37 {l : Launch} {G : GW} {h : AH} {n : Nat} {f0 g0 : Nat → Int32} {Q : Option Value → AH → Nat → Prop} (mp : h 58 = some (IA 570 f0)) (hq : Q (some (.int 222)) (hov h [(37, IA 200 (gvI g0 f0 22 200))]) n) : ∀ (f k : Nat), k + f = 200 → EW l G yX4_gives cX4_gives 4 (some .int) 0 0 0 Q 0 0 (hov h [(37, IA 200 (gvI g0 f0 22 k))]) n 2 [some (.ref 58), some (.int 22), some (.ref 37), some (.int (nI k))] [] := by
  intro f
  induction f with
  | zero =>
    intro k  hk
    refine ew_iload_n (t := 3) dX4_gives_2 rfl rfl rfl ?_
    refine ew_aload_n (t := 4) dX4_gives_3 rfl rfl rfl ?_
    refine ew_alen (t := 5) (v := 200) rfl (Nat.le_of_ble_eq_true rfl) rfl dX4_gives_4 rfl ?_
    refine ew_icmp_ge (t := 22) (t2 := 8) dX4_gives_5 rfl rfl (fun c_5 => ?_) (fun c_5 => ?_)
    · refine ew_iload_n (t := 23) dX4_gives_22 rfl rfl rfl ?_
      refine ew_aload_n (t := 24) dX4_gives_23 rfl rfl rfl ?_
      refine ew_alen (t := 25) (v := 200) rfl (Nat.le_of_ble_eq_true rfl) rfl dX4_gives_24 rfl ?_
      refine ew_iadd (t := 26) dX4_gives_25 rfl ?_
      exact ew_iret rfl dX4_gives_26 (Nat.le_refl _) (Nat.le_refl _) (by rw [show k = 200 by omega]; exact hq)
    · exact absurd (show (200 : Int32) ≤ nI k by rw [show k = 200 by omega]; decide) c_5
  | succ f ih =>
    intro k  hk
    refine ew_iload_n (t := 3) dX4_gives_2 rfl rfl rfl ?_
    refine ew_aload_n (t := 4) dX4_gives_3 rfl rfl rfl ?_
    refine ew_alen (t := 5) (v := 200) rfl (Nat.le_of_ble_eq_true rfl) rfl dX4_gives_4 rfl ?_
    refine ew_icmp_ge (t := 22) (t2 := 8) dX4_gives_5 rfl rfl (fun c_5 => ?_) (fun c_5 => ?_)
    · exact absurd c_5 (nI_ge (b := 200) (by omega) (by omega))
    · refine ew_aload_n (t := 9) dX4_gives_8 rfl rfl rfl ?_
      refine ew_iload_n (t := 10) dX4_gives_9 rfl rfl rfl ?_
      refine ew_aload_n (t := 11) dX4_gives_10 rfl rfl rfl ?_
      refine ew_iload_n (t := 12) dX4_gives_11 rfl rfl rfl ?_
      refine ew_iload_n (t := 13) dX4_gives_12 rfl rfl rfl ?_
      refine ew_iadd (t := 14) dX4_gives_13 rfl ?_
      rw [show (22 : Int32) + nI k = nI (22 + k) from nI_add 22 k]
      refine ew_iald (t := 15) (j := (22 + k)) (N := 570) mp (vp_in_nI (by omega) (by omega)) (nI_clamp (by omega)) dX4_gives_14 rfl ?_
      refine ew_iast (t := 16) (j := k) (N := 200) (h' := (hov h [(37, IA 200 (upd (gvI g0 f0 22 k) k (f0 (22 + k))))])) rfl (vp_in_nI (by omega) (by omega)) (nI_clamp (by omega)) dX4_gives_15 (hov_up rfl) rfl ?_
      refine ew_iinc (t := 19) (x := (nI k)) (v := ((nI k) + 1)) (L' := [some (.ref 58), some (.int 22), some (.ref 37), some (.int ((nI k) + 1))]) dX4_gives_16 rfl rfl (Nat.le_of_ble_eq_true rfl) rfl rfl ?_
      refine ew_goto (t := 2) dX4_gives_19 rfl ?_
      rw [nI_1]
      exact ih (k + 1) (by omega)
set_option maxHeartbeats 4000000 in
theorem mc_gives37 {l : Launch} {G : GW} {h : AH} {n : Nat} {s : Nat → Int32} {al : Int64} {F : Nat → Nat → Int32} {FL : Nat → Int64} (mc : MC s al F FL h) : AM l G yX4_gives cX4_gives 4 (some .int) 0 0 0 [.ref 58, .int 22, .ref 37] h n (SvQ s al (va_up F 37 (gvI (F 37) (F 58) 22 200)) FL h n 222) := by
  refine AM.of (L := [some (.ref 58), some (.int 22), some (.ref 37), none]) (by decide) (Nat.le_of_ble_eq_true rfl) rfl ?_
  refine ew_ic0 (t := 1) dX4_gives_0 rfl ?_
  refine ew_istore_n (t := 2) (L' := [some (.ref 58), some (.int 22), some (.ref 37), some (.int 0)]) dX4_gives_1 rfl (Nat.le_of_ble_eq_true rfl) rfl rfl ?_
  refine EW.heap (h' := hov h [(37, IA 200 (F 37))]) (hov_same (h := h) (mI mc 37 rfl)).symm ?_
  exact lp_gives37 (mI mc 58 rfl) ⟨rfl, rfl, ovI rfl, MC_I (c := 37) rfl (l := []) mc⟩ 200 0 (by omega)
set_option maxHeartbeats 4000000 in
theorem lp_gives38 {l : Launch} {G : GW} {h : AH} {n : Nat} {f0 g0 : Nat → Int32} {Q : Option Value → AH → Nat → Prop} (mp : h 58 = some (IA 570 f0)) (hq : Q (some (.int 422)) (hov h [(38, IA 200 (gvI g0 f0 222 200))]) n) : ∀ (f k : Nat), k + f = 200 → EW l G yX4_gives cX4_gives 4 (some .int) 0 0 0 Q 0 0 (hov h [(38, IA 200 (gvI g0 f0 222 k))]) n 2 [some (.ref 58), some (.int 222), some (.ref 38), some (.int (nI k))] [] := by
  intro f
  induction f with
  | zero =>
    intro k  hk
    refine ew_iload_n (t := 3) dX4_gives_2 rfl rfl rfl ?_
    refine ew_aload_n (t := 4) dX4_gives_3 rfl rfl rfl ?_
    refine ew_alen (t := 5) (v := 200) rfl (Nat.le_of_ble_eq_true rfl) rfl dX4_gives_4 rfl ?_
    refine ew_icmp_ge (t := 22) (t2 := 8) dX4_gives_5 rfl rfl (fun c_5 => ?_) (fun c_5 => ?_)
    · refine ew_iload_n (t := 23) dX4_gives_22 rfl rfl rfl ?_
      refine ew_aload_n (t := 24) dX4_gives_23 rfl rfl rfl ?_
      refine ew_alen (t := 25) (v := 200) rfl (Nat.le_of_ble_eq_true rfl) rfl dX4_gives_24 rfl ?_
      refine ew_iadd (t := 26) dX4_gives_25 rfl ?_
      exact ew_iret rfl dX4_gives_26 (Nat.le_refl _) (Nat.le_refl _) (by rw [show k = 200 by omega]; exact hq)
    · exact absurd (show (200 : Int32) ≤ nI k by rw [show k = 200 by omega]; decide) c_5
  | succ f ih =>
    intro k  hk
    refine ew_iload_n (t := 3) dX4_gives_2 rfl rfl rfl ?_
    refine ew_aload_n (t := 4) dX4_gives_3 rfl rfl rfl ?_
    refine ew_alen (t := 5) (v := 200) rfl (Nat.le_of_ble_eq_true rfl) rfl dX4_gives_4 rfl ?_
    refine ew_icmp_ge (t := 22) (t2 := 8) dX4_gives_5 rfl rfl (fun c_5 => ?_) (fun c_5 => ?_)
    · exact absurd c_5 (nI_ge (b := 200) (by omega) (by omega))
    · refine ew_aload_n (t := 9) dX4_gives_8 rfl rfl rfl ?_
      refine ew_iload_n (t := 10) dX4_gives_9 rfl rfl rfl ?_
      refine ew_aload_n (t := 11) dX4_gives_10 rfl rfl rfl ?_
      refine ew_iload_n (t := 12) dX4_gives_11 rfl rfl rfl ?_
      refine ew_iload_n (t := 13) dX4_gives_12 rfl rfl rfl ?_
      refine ew_iadd (t := 14) dX4_gives_13 rfl ?_
      rw [show (222 : Int32) + nI k = nI (222 + k) from nI_add 222 k]
      refine ew_iald (t := 15) (j := (222 + k)) (N := 570) mp (vp_in_nI (by omega) (by omega)) (nI_clamp (by omega)) dX4_gives_14 rfl ?_
      refine ew_iast (t := 16) (j := k) (N := 200) (h' := (hov h [(38, IA 200 (upd (gvI g0 f0 222 k) k (f0 (222 + k))))])) rfl (vp_in_nI (by omega) (by omega)) (nI_clamp (by omega)) dX4_gives_15 (hov_up rfl) rfl ?_
      refine ew_iinc (t := 19) (x := (nI k)) (v := ((nI k) + 1)) (L' := [some (.ref 58), some (.int 222), some (.ref 38), some (.int ((nI k) + 1))]) dX4_gives_16 rfl rfl (Nat.le_of_ble_eq_true rfl) rfl rfl ?_
      refine ew_goto (t := 2) dX4_gives_19 rfl ?_
      rw [nI_1]
      exact ih (k + 1) (by omega)
set_option maxHeartbeats 4000000 in
theorem mc_gives38 {l : Launch} {G : GW} {h : AH} {n : Nat} {s : Nat → Int32} {al : Int64} {F : Nat → Nat → Int32} {FL : Nat → Int64} (mc : MC s al F FL h) : AM l G yX4_gives cX4_gives 4 (some .int) 0 0 0 [.ref 58, .int 222, .ref 38] h n (SvQ s al (va_up F 38 (gvI (F 38) (F 58) 222 200)) FL h n 422) := by
  refine AM.of (L := [some (.ref 58), some (.int 222), some (.ref 38), none]) (by decide) (Nat.le_of_ble_eq_true rfl) rfl ?_
  refine ew_ic0 (t := 1) dX4_gives_0 rfl ?_
  refine ew_istore_n (t := 2) (L' := [some (.ref 58), some (.int 222), some (.ref 38), some (.int 0)]) dX4_gives_1 rfl (Nat.le_of_ble_eq_true rfl) rfl rfl ?_
  refine EW.heap (h' := hov h [(38, IA 200 (F 38))]) (hov_same (h := h) (mI mc 38 rfl)).symm ?_
  exact lp_gives38 (mI mc 58 rfl) ⟨rfl, rfl, ovI rfl, MC_I (c := 38) rfl (l := []) mc⟩ 200 0 (by omega)
set_option maxHeartbeats 4000000 in
theorem lp_gives39 {l : Launch} {G : GW} {h : AH} {n : Nat} {f0 g0 : Nat → Int32} {Q : Option Value → AH → Nat → Prop} (mp : h 58 = some (IA 570 f0)) (hq : Q (some (.int 522)) (hov h [(39, IA 100 (gvI g0 f0 422 100))]) n) : ∀ (f k : Nat), k + f = 100 → EW l G yX4_gives cX4_gives 4 (some .int) 0 0 0 Q 0 0 (hov h [(39, IA 100 (gvI g0 f0 422 k))]) n 2 [some (.ref 58), some (.int 422), some (.ref 39), some (.int (nI k))] [] := by
  intro f
  induction f with
  | zero =>
    intro k  hk
    refine ew_iload_n (t := 3) dX4_gives_2 rfl rfl rfl ?_
    refine ew_aload_n (t := 4) dX4_gives_3 rfl rfl rfl ?_
    refine ew_alen (t := 5) (v := 100) rfl (Nat.le_of_ble_eq_true rfl) rfl dX4_gives_4 rfl ?_
    refine ew_icmp_ge (t := 22) (t2 := 8) dX4_gives_5 rfl rfl (fun c_5 => ?_) (fun c_5 => ?_)
    · refine ew_iload_n (t := 23) dX4_gives_22 rfl rfl rfl ?_
      refine ew_aload_n (t := 24) dX4_gives_23 rfl rfl rfl ?_
      refine ew_alen (t := 25) (v := 100) rfl (Nat.le_of_ble_eq_true rfl) rfl dX4_gives_24 rfl ?_
      refine ew_iadd (t := 26) dX4_gives_25 rfl ?_
      exact ew_iret rfl dX4_gives_26 (Nat.le_refl _) (Nat.le_refl _) (by rw [show k = 100 by omega]; exact hq)
    · exact absurd (show (100 : Int32) ≤ nI k by rw [show k = 100 by omega]; decide) c_5
  | succ f ih =>
    intro k  hk
    refine ew_iload_n (t := 3) dX4_gives_2 rfl rfl rfl ?_
    refine ew_aload_n (t := 4) dX4_gives_3 rfl rfl rfl ?_
    refine ew_alen (t := 5) (v := 100) rfl (Nat.le_of_ble_eq_true rfl) rfl dX4_gives_4 rfl ?_
    refine ew_icmp_ge (t := 22) (t2 := 8) dX4_gives_5 rfl rfl (fun c_5 => ?_) (fun c_5 => ?_)
    · exact absurd c_5 (nI_ge (b := 100) (by omega) (by omega))
    · refine ew_aload_n (t := 9) dX4_gives_8 rfl rfl rfl ?_
      refine ew_iload_n (t := 10) dX4_gives_9 rfl rfl rfl ?_
      refine ew_aload_n (t := 11) dX4_gives_10 rfl rfl rfl ?_
      refine ew_iload_n (t := 12) dX4_gives_11 rfl rfl rfl ?_
      refine ew_iload_n (t := 13) dX4_gives_12 rfl rfl rfl ?_
      refine ew_iadd (t := 14) dX4_gives_13 rfl ?_
      rw [show (422 : Int32) + nI k = nI (422 + k) from nI_add 422 k]
      refine ew_iald (t := 15) (j := (422 + k)) (N := 570) mp (vp_in_nI (by omega) (by omega)) (nI_clamp (by omega)) dX4_gives_14 rfl ?_
      refine ew_iast (t := 16) (j := k) (N := 100) (h' := (hov h [(39, IA 100 (upd (gvI g0 f0 422 k) k (f0 (422 + k))))])) rfl (vp_in_nI (by omega) (by omega)) (nI_clamp (by omega)) dX4_gives_15 (hov_up rfl) rfl ?_
      refine ew_iinc (t := 19) (x := (nI k)) (v := ((nI k) + 1)) (L' := [some (.ref 58), some (.int 422), some (.ref 39), some (.int ((nI k) + 1))]) dX4_gives_16 rfl rfl (Nat.le_of_ble_eq_true rfl) rfl rfl ?_
      refine ew_goto (t := 2) dX4_gives_19 rfl ?_
      rw [nI_1]
      exact ih (k + 1) (by omega)
set_option maxHeartbeats 4000000 in
theorem mc_gives39 {l : Launch} {G : GW} {h : AH} {n : Nat} {s : Nat → Int32} {al : Int64} {F : Nat → Nat → Int32} {FL : Nat → Int64} (mc : MC s al F FL h) : AM l G yX4_gives cX4_gives 4 (some .int) 0 0 0 [.ref 58, .int 422, .ref 39] h n (SvQ s al (va_up F 39 (gvI (F 39) (F 58) 422 100)) FL h n 522) := by
  refine AM.of (L := [some (.ref 58), some (.int 422), some (.ref 39), none]) (by decide) (Nat.le_of_ble_eq_true rfl) rfl ?_
  refine ew_ic0 (t := 1) dX4_gives_0 rfl ?_
  refine ew_istore_n (t := 2) (L' := [some (.ref 58), some (.int 422), some (.ref 39), some (.int 0)]) dX4_gives_1 rfl (Nat.le_of_ble_eq_true rfl) rfl rfl ?_
  refine EW.heap (h' := hov h [(39, IA 100 (F 39))]) (hov_same (h := h) (mI mc 39 rfl)).symm ?_
  exact lp_gives39 (mI mc 58 rfl) ⟨rfl, rfl, ovI rfl, MC_I (c := 39) rfl (l := []) mc⟩ 100 0 (by omega)
set_option maxHeartbeats 4000000 in
theorem lp_gives52 {l : Launch} {G : GW} {h : AH} {n : Nat} {f0 g0 : Nat → Int32} {Q : Option Value → AH → Nat → Prop} (mp : h 58 = some (IA 570 f0)) (hq : Q (some (.int 542)) (hov h [(52, IA 20 (gvI g0 f0 522 20))]) n) : ∀ (f k : Nat), k + f = 20 → EW l G yX4_gives cX4_gives 4 (some .int) 0 0 0 Q 0 0 (hov h [(52, IA 20 (gvI g0 f0 522 k))]) n 2 [some (.ref 58), some (.int 522), some (.ref 52), some (.int (nI k))] [] := by
  intro f
  induction f with
  | zero =>
    intro k  hk
    refine ew_iload_n (t := 3) dX4_gives_2 rfl rfl rfl ?_
    refine ew_aload_n (t := 4) dX4_gives_3 rfl rfl rfl ?_
    refine ew_alen (t := 5) (v := 20) rfl (Nat.le_of_ble_eq_true rfl) rfl dX4_gives_4 rfl ?_
    refine ew_icmp_ge (t := 22) (t2 := 8) dX4_gives_5 rfl rfl (fun c_5 => ?_) (fun c_5 => ?_)
    · refine ew_iload_n (t := 23) dX4_gives_22 rfl rfl rfl ?_
      refine ew_aload_n (t := 24) dX4_gives_23 rfl rfl rfl ?_
      refine ew_alen (t := 25) (v := 20) rfl (Nat.le_of_ble_eq_true rfl) rfl dX4_gives_24 rfl ?_
      refine ew_iadd (t := 26) dX4_gives_25 rfl ?_
      exact ew_iret rfl dX4_gives_26 (Nat.le_refl _) (Nat.le_refl _) (by rw [show k = 20 by omega]; exact hq)
    · exact absurd (show (20 : Int32) ≤ nI k by rw [show k = 20 by omega]; decide) c_5
  | succ f ih =>
    intro k  hk
    refine ew_iload_n (t := 3) dX4_gives_2 rfl rfl rfl ?_
    refine ew_aload_n (t := 4) dX4_gives_3 rfl rfl rfl ?_
    refine ew_alen (t := 5) (v := 20) rfl (Nat.le_of_ble_eq_true rfl) rfl dX4_gives_4 rfl ?_
    refine ew_icmp_ge (t := 22) (t2 := 8) dX4_gives_5 rfl rfl (fun c_5 => ?_) (fun c_5 => ?_)
    · exact absurd c_5 (nI_ge (b := 20) (by omega) (by omega))
    · refine ew_aload_n (t := 9) dX4_gives_8 rfl rfl rfl ?_
      refine ew_iload_n (t := 10) dX4_gives_9 rfl rfl rfl ?_
      refine ew_aload_n (t := 11) dX4_gives_10 rfl rfl rfl ?_
      refine ew_iload_n (t := 12) dX4_gives_11 rfl rfl rfl ?_
      refine ew_iload_n (t := 13) dX4_gives_12 rfl rfl rfl ?_
      refine ew_iadd (t := 14) dX4_gives_13 rfl ?_
      rw [show (522 : Int32) + nI k = nI (522 + k) from nI_add 522 k]
      refine ew_iald (t := 15) (j := (522 + k)) (N := 570) mp (vp_in_nI (by omega) (by omega)) (nI_clamp (by omega)) dX4_gives_14 rfl ?_
      refine ew_iast (t := 16) (j := k) (N := 20) (h' := (hov h [(52, IA 20 (upd (gvI g0 f0 522 k) k (f0 (522 + k))))])) rfl (vp_in_nI (by omega) (by omega)) (nI_clamp (by omega)) dX4_gives_15 (hov_up rfl) rfl ?_
      refine ew_iinc (t := 19) (x := (nI k)) (v := ((nI k) + 1)) (L' := [some (.ref 58), some (.int 522), some (.ref 52), some (.int ((nI k) + 1))]) dX4_gives_16 rfl rfl (Nat.le_of_ble_eq_true rfl) rfl rfl ?_
      refine ew_goto (t := 2) dX4_gives_19 rfl ?_
      rw [nI_1]
      exact ih (k + 1) (by omega)
set_option maxHeartbeats 4000000 in
theorem mc_gives52 {l : Launch} {G : GW} {h : AH} {n : Nat} {s : Nat → Int32} {al : Int64} {F : Nat → Nat → Int32} {FL : Nat → Int64} (mc : MC s al F FL h) : AM l G yX4_gives cX4_gives 4 (some .int) 0 0 0 [.ref 58, .int 522, .ref 52] h n (SvQ s al (va_up F 52 (gvI (F 52) (F 58) 522 20)) FL h n 542) := by
  refine AM.of (L := [some (.ref 58), some (.int 522), some (.ref 52), none]) (by decide) (Nat.le_of_ble_eq_true rfl) rfl ?_
  refine ew_ic0 (t := 1) dX4_gives_0 rfl ?_
  refine ew_istore_n (t := 2) (L' := [some (.ref 58), some (.int 522), some (.ref 52), some (.int 0)]) dX4_gives_1 rfl (Nat.le_of_ble_eq_true rfl) rfl rfl ?_
  refine EW.heap (h' := hov h [(52, IA 20 (F 52))]) (hov_same (h := h) (mI mc 52 rfl)).symm ?_
  exact lp_gives52 (mI mc 58 rfl) ⟨rfl, rfl, ovI rfl, MC_I (c := 52) rfl (l := []) mc⟩ 20 0 (by omega)
set_option maxHeartbeats 4000000 in
theorem lp_gives53 {l : Launch} {G : GW} {h : AH} {n : Nat} {f0 g0 : Nat → Int32} {Q : Option Value → AH → Nat → Prop} (mp : h 58 = some (IA 570 f0)) (hq : Q (some (.int 548)) (hov h [(53, IA 6 (gvI g0 f0 542 6))]) n) : ∀ (f k : Nat), k + f = 6 → EW l G yX4_gives cX4_gives 4 (some .int) 0 0 0 Q 0 0 (hov h [(53, IA 6 (gvI g0 f0 542 k))]) n 2 [some (.ref 58), some (.int 542), some (.ref 53), some (.int (nI k))] [] := by
  intro f
  induction f with
  | zero =>
    intro k  hk
    refine ew_iload_n (t := 3) dX4_gives_2 rfl rfl rfl ?_
    refine ew_aload_n (t := 4) dX4_gives_3 rfl rfl rfl ?_
    refine ew_alen (t := 5) (v := 6) rfl (Nat.le_of_ble_eq_true rfl) rfl dX4_gives_4 rfl ?_
    refine ew_icmp_ge (t := 22) (t2 := 8) dX4_gives_5 rfl rfl (fun c_5 => ?_) (fun c_5 => ?_)
    · refine ew_iload_n (t := 23) dX4_gives_22 rfl rfl rfl ?_
      refine ew_aload_n (t := 24) dX4_gives_23 rfl rfl rfl ?_
      refine ew_alen (t := 25) (v := 6) rfl (Nat.le_of_ble_eq_true rfl) rfl dX4_gives_24 rfl ?_
      refine ew_iadd (t := 26) dX4_gives_25 rfl ?_
      exact ew_iret rfl dX4_gives_26 (Nat.le_refl _) (Nat.le_refl _) (by rw [show k = 6 by omega]; exact hq)
    · exact absurd (show (6 : Int32) ≤ nI k by rw [show k = 6 by omega]; decide) c_5
  | succ f ih =>
    intro k  hk
    refine ew_iload_n (t := 3) dX4_gives_2 rfl rfl rfl ?_
    refine ew_aload_n (t := 4) dX4_gives_3 rfl rfl rfl ?_
    refine ew_alen (t := 5) (v := 6) rfl (Nat.le_of_ble_eq_true rfl) rfl dX4_gives_4 rfl ?_
    refine ew_icmp_ge (t := 22) (t2 := 8) dX4_gives_5 rfl rfl (fun c_5 => ?_) (fun c_5 => ?_)
    · exact absurd c_5 (nI_ge (b := 6) (by omega) (by omega))
    · refine ew_aload_n (t := 9) dX4_gives_8 rfl rfl rfl ?_
      refine ew_iload_n (t := 10) dX4_gives_9 rfl rfl rfl ?_
      refine ew_aload_n (t := 11) dX4_gives_10 rfl rfl rfl ?_
      refine ew_iload_n (t := 12) dX4_gives_11 rfl rfl rfl ?_
      refine ew_iload_n (t := 13) dX4_gives_12 rfl rfl rfl ?_
      refine ew_iadd (t := 14) dX4_gives_13 rfl ?_
      rw [show (542 : Int32) + nI k = nI (542 + k) from nI_add 542 k]
      refine ew_iald (t := 15) (j := (542 + k)) (N := 570) mp (vp_in_nI (by omega) (by omega)) (nI_clamp (by omega)) dX4_gives_14 rfl ?_
      refine ew_iast (t := 16) (j := k) (N := 6) (h' := (hov h [(53, IA 6 (upd (gvI g0 f0 542 k) k (f0 (542 + k))))])) rfl (vp_in_nI (by omega) (by omega)) (nI_clamp (by omega)) dX4_gives_15 (hov_up rfl) rfl ?_
      refine ew_iinc (t := 19) (x := (nI k)) (v := ((nI k) + 1)) (L' := [some (.ref 58), some (.int 542), some (.ref 53), some (.int ((nI k) + 1))]) dX4_gives_16 rfl rfl (Nat.le_of_ble_eq_true rfl) rfl rfl ?_
      refine ew_goto (t := 2) dX4_gives_19 rfl ?_
      rw [nI_1]
      exact ih (k + 1) (by omega)
set_option maxHeartbeats 4000000 in
theorem mc_gives53 {l : Launch} {G : GW} {h : AH} {n : Nat} {s : Nat → Int32} {al : Int64} {F : Nat → Nat → Int32} {FL : Nat → Int64} (mc : MC s al F FL h) : AM l G yX4_gives cX4_gives 4 (some .int) 0 0 0 [.ref 58, .int 542, .ref 53] h n (SvQ s al (va_up F 53 (gvI (F 53) (F 58) 542 6)) FL h n 548) := by
  refine AM.of (L := [some (.ref 58), some (.int 542), some (.ref 53), none]) (by decide) (Nat.le_of_ble_eq_true rfl) rfl ?_
  refine ew_ic0 (t := 1) dX4_gives_0 rfl ?_
  refine ew_istore_n (t := 2) (L' := [some (.ref 58), some (.int 542), some (.ref 53), some (.int 0)]) dX4_gives_1 rfl (Nat.le_of_ble_eq_true rfl) rfl rfl ?_
  refine EW.heap (h' := hov h [(53, IA 6 (F 53))]) (hov_same (h := h) (mI mc 53 rfl)).symm ?_
  exact lp_gives53 (mI mc 58 rfl) ⟨rfl, rfl, ovI rfl, MC_I (c := 53) rfl (l := []) mc⟩ 6 0 (by omega)
set_option maxHeartbeats 4000000 in
theorem lp_gives54 {l : Launch} {G : GW} {h : AH} {n : Nat} {f0 g0 : Nat → Int32} {Q : Option Value → AH → Nat → Prop} (mp : h 58 = some (IA 570 f0)) (hq : Q (some (.int 554)) (hov h [(54, IA 6 (gvI g0 f0 548 6))]) n) : ∀ (f k : Nat), k + f = 6 → EW l G yX4_gives cX4_gives 4 (some .int) 0 0 0 Q 0 0 (hov h [(54, IA 6 (gvI g0 f0 548 k))]) n 2 [some (.ref 58), some (.int 548), some (.ref 54), some (.int (nI k))] [] := by
  intro f
  induction f with
  | zero =>
    intro k  hk
    refine ew_iload_n (t := 3) dX4_gives_2 rfl rfl rfl ?_
    refine ew_aload_n (t := 4) dX4_gives_3 rfl rfl rfl ?_
    refine ew_alen (t := 5) (v := 6) rfl (Nat.le_of_ble_eq_true rfl) rfl dX4_gives_4 rfl ?_
    refine ew_icmp_ge (t := 22) (t2 := 8) dX4_gives_5 rfl rfl (fun c_5 => ?_) (fun c_5 => ?_)
    · refine ew_iload_n (t := 23) dX4_gives_22 rfl rfl rfl ?_
      refine ew_aload_n (t := 24) dX4_gives_23 rfl rfl rfl ?_
      refine ew_alen (t := 25) (v := 6) rfl (Nat.le_of_ble_eq_true rfl) rfl dX4_gives_24 rfl ?_
      refine ew_iadd (t := 26) dX4_gives_25 rfl ?_
      exact ew_iret rfl dX4_gives_26 (Nat.le_refl _) (Nat.le_refl _) (by rw [show k = 6 by omega]; exact hq)
    · exact absurd (show (6 : Int32) ≤ nI k by rw [show k = 6 by omega]; decide) c_5
  | succ f ih =>
    intro k  hk
    refine ew_iload_n (t := 3) dX4_gives_2 rfl rfl rfl ?_
    refine ew_aload_n (t := 4) dX4_gives_3 rfl rfl rfl ?_
    refine ew_alen (t := 5) (v := 6) rfl (Nat.le_of_ble_eq_true rfl) rfl dX4_gives_4 rfl ?_
    refine ew_icmp_ge (t := 22) (t2 := 8) dX4_gives_5 rfl rfl (fun c_5 => ?_) (fun c_5 => ?_)
    · exact absurd c_5 (nI_ge (b := 6) (by omega) (by omega))
    · refine ew_aload_n (t := 9) dX4_gives_8 rfl rfl rfl ?_
      refine ew_iload_n (t := 10) dX4_gives_9 rfl rfl rfl ?_
      refine ew_aload_n (t := 11) dX4_gives_10 rfl rfl rfl ?_
      refine ew_iload_n (t := 12) dX4_gives_11 rfl rfl rfl ?_
      refine ew_iload_n (t := 13) dX4_gives_12 rfl rfl rfl ?_
      refine ew_iadd (t := 14) dX4_gives_13 rfl ?_
      rw [show (548 : Int32) + nI k = nI (548 + k) from nI_add 548 k]
      refine ew_iald (t := 15) (j := (548 + k)) (N := 570) mp (vp_in_nI (by omega) (by omega)) (nI_clamp (by omega)) dX4_gives_14 rfl ?_
      refine ew_iast (t := 16) (j := k) (N := 6) (h' := (hov h [(54, IA 6 (upd (gvI g0 f0 548 k) k (f0 (548 + k))))])) rfl (vp_in_nI (by omega) (by omega)) (nI_clamp (by omega)) dX4_gives_15 (hov_up rfl) rfl ?_
      refine ew_iinc (t := 19) (x := (nI k)) (v := ((nI k) + 1)) (L' := [some (.ref 58), some (.int 548), some (.ref 54), some (.int ((nI k) + 1))]) dX4_gives_16 rfl rfl (Nat.le_of_ble_eq_true rfl) rfl rfl ?_
      refine ew_goto (t := 2) dX4_gives_19 rfl ?_
      rw [nI_1]
      exact ih (k + 1) (by omega)
set_option maxHeartbeats 4000000 in
theorem mc_gives54 {l : Launch} {G : GW} {h : AH} {n : Nat} {s : Nat → Int32} {al : Int64} {F : Nat → Nat → Int32} {FL : Nat → Int64} (mc : MC s al F FL h) : AM l G yX4_gives cX4_gives 4 (some .int) 0 0 0 [.ref 58, .int 548, .ref 54] h n (SvQ s al (va_up F 54 (gvI (F 54) (F 58) 548 6)) FL h n 554) := by
  refine AM.of (L := [some (.ref 58), some (.int 548), some (.ref 54), none]) (by decide) (Nat.le_of_ble_eq_true rfl) rfl ?_
  refine ew_ic0 (t := 1) dX4_gives_0 rfl ?_
  refine ew_istore_n (t := 2) (L' := [some (.ref 58), some (.int 548), some (.ref 54), some (.int 0)]) dX4_gives_1 rfl (Nat.le_of_ble_eq_true rfl) rfl rfl ?_
  refine EW.heap (h' := hov h [(54, IA 6 (F 54))]) (hov_same (h := h) (mI mc 54 rfl)).symm ?_
  exact lp_gives54 (mI mc 58 rfl) ⟨rfl, rfl, ovI rfl, MC_I (c := 54) rfl (l := []) mc⟩ 6 0 (by omega)
set_option maxHeartbeats 4000000 in
theorem mc_image {l : Launch} {G : GW} {h : AH} {n : Nat} {s : Nat → Int32} {al : Int64} {F : Nat → Nat → Int32} {FL : Nat → Int64} (mc : MC s al F FL h) : AM l G yX4_image cX4_image 2 (some .int) 2 0 0 [.ref 33] h n (OpR h n (imgP s F)) := by
  refine AM.of (L := [some (.ref 33), none]) (by decide) (Nat.le_of_ble_eq_true rfl) rfl ?_
  refine ew_aload_n (t := 1) dX4_image_0 rfl rfl rfl ?_
  refine ew_get (t := 4) (j := 0) (v := .ref 34) fcX4 mc.1 (Nat.le_of_ble_eq_true rfl) q1021 rfl dX4_image_1 rfl ?_
  refine ew_aload_n (t := 5) dX4_image_4 rfl rfl rfl ?_
  refine ew_get (t := 8) (j := 36) (v := .ref 58) fcX4 mc.1 (Nat.le_of_ble_eq_true rfl) q1057 rfl dX4_image_5 rfl ?_
  refine ew_ic0 (t := 9) dX4_image_8 rfl ?_
  refine ew_callS (t := 12) (As := [_, _, _]) (mc_saves34 (F := F) mc) (lw_S q1380 q1381 q60 q1382) naX4_saves dX4_image_9 rfl (Nat.le_of_ble_eq_true rfl) (Nat.le_of_ble_eq_true rfl) (Nat.le_refl _) (Nat.le_refl _) (Nat.le_of_ble_eq_true rfl) rfl (fun r h1 n1 q => ?_)
  obtain ⟨rfl, qn, a1, b1⟩ := q
  replace qn := qn.symm
  subst qn
  replace b1 : MC s al (im1 F) FL h1 := b1
  refine ew_istore_n (t := 13) (L' := [some (.ref 33), some (.int 8)]) dX4_image_12 rfl (Nat.le_of_ble_eq_true rfl) rfl rfl ?_
  refine ew_aload_n (t := 14) dX4_image_13 rfl rfl rfl ?_
  refine ew_get (t := 17) (j := 1) (v := .ref 35) fcX4 b1.1 (Nat.le_of_ble_eq_true rfl) q1022 rfl dX4_image_14 rfl ?_
  refine ew_aload_n (t := 18) dX4_image_17 rfl rfl rfl ?_
  refine ew_get (t := 21) (j := 36) (v := .ref 58) fcX4 b1.1 (Nat.le_of_ble_eq_true rfl) q1057 rfl dX4_image_18 rfl ?_
  refine ew_iload_n (t := 22) dX4_image_21 rfl rfl rfl ?_
  refine ew_callS (t := 25) (As := [_, _, _]) (mc_saves35 (F := im1 F) b1) (lw_S q1380 q1381 q60 q1382) naX4_saves dX4_image_22 rfl (Nat.le_of_ble_eq_true rfl) (Nat.le_of_ble_eq_true rfl) (Nat.le_refl _) (Nat.le_refl _) (Nat.le_of_ble_eq_true rfl) rfl (fun r h2 n2 q => ?_)
  obtain ⟨rfl, qn, a2, b2⟩ := q
  replace qn := qn.symm
  subst qn
  replace b2 : MC s al (im2 F) FL h2 := b2
  refine ew_istore_n (t := 26) (L' := [some (.ref 33), some (.int 15)]) dX4_image_25 rfl (Nat.le_of_ble_eq_true rfl) rfl rfl ?_
  refine ew_aload_n (t := 27) dX4_image_26 rfl rfl rfl ?_
  refine ew_get (t := 30) (j := 2) (v := .ref 36) fcX4 b2.1 (Nat.le_of_ble_eq_true rfl) q1023 rfl dX4_image_27 rfl ?_
  refine ew_aload_n (t := 31) dX4_image_30 rfl rfl rfl ?_
  refine ew_get (t := 34) (j := 36) (v := .ref 58) fcX4 b2.1 (Nat.le_of_ble_eq_true rfl) q1057 rfl dX4_image_31 rfl ?_
  refine ew_iload_n (t := 35) dX4_image_34 rfl rfl rfl ?_
  refine ew_callS (t := 38) (As := [_, _, _]) (mc_saves36 (F := im2 F) b2) (lw_S q1380 q1381 q60 q1382) naX4_saves dX4_image_35 rfl (Nat.le_of_ble_eq_true rfl) (Nat.le_of_ble_eq_true rfl) (Nat.le_refl _) (Nat.le_refl _) (Nat.le_of_ble_eq_true rfl) rfl (fun r h3 n3 q => ?_)
  obtain ⟨rfl, qn, a3, b3⟩ := q
  replace qn := qn.symm
  subst qn
  replace b3 : MC s al (im3 F) FL h3 := b3
  refine ew_istore_n (t := 39) (L' := [some (.ref 33), some (.int 22)]) dX4_image_38 rfl (Nat.le_of_ble_eq_true rfl) rfl rfl ?_
  refine ew_aload_n (t := 40) dX4_image_39 rfl rfl rfl ?_
  refine ew_get (t := 43) (j := 3) (v := .ref 37) fcX4 b3.1 (Nat.le_of_ble_eq_true rfl) q1024 rfl dX4_image_40 rfl ?_
  refine ew_aload_n (t := 44) dX4_image_43 rfl rfl rfl ?_
  refine ew_get (t := 47) (j := 36) (v := .ref 58) fcX4 b3.1 (Nat.le_of_ble_eq_true rfl) q1057 rfl dX4_image_44 rfl ?_
  refine ew_iload_n (t := 48) dX4_image_47 rfl rfl rfl ?_
  refine ew_callS (t := 51) (As := [_, _, _]) (mc_saves37 (F := im3 F) b3) (lw_S q1380 q1381 q60 q1382) naX4_saves dX4_image_48 rfl (Nat.le_of_ble_eq_true rfl) (Nat.le_of_ble_eq_true rfl) (Nat.le_refl _) (Nat.le_refl _) (Nat.le_of_ble_eq_true rfl) rfl (fun r h4 n4 q => ?_)
  obtain ⟨rfl, qn, a4, b4⟩ := q
  replace qn := qn.symm
  subst qn
  replace b4 : MC s al (im4 F) FL h4 := b4
  refine ew_istore_n (t := 52) (L' := [some (.ref 33), some (.int 222)]) dX4_image_51 rfl (Nat.le_of_ble_eq_true rfl) rfl rfl ?_
  refine ew_aload_n (t := 53) dX4_image_52 rfl rfl rfl ?_
  refine ew_get (t := 56) (j := 4) (v := .ref 38) fcX4 b4.1 (Nat.le_of_ble_eq_true rfl) q1025 rfl dX4_image_53 rfl ?_
  refine ew_aload_n (t := 57) dX4_image_56 rfl rfl rfl ?_
  refine ew_get (t := 60) (j := 36) (v := .ref 58) fcX4 b4.1 (Nat.le_of_ble_eq_true rfl) q1057 rfl dX4_image_57 rfl ?_
  refine ew_iload_n (t := 61) dX4_image_60 rfl rfl rfl ?_
  refine ew_callS (t := 64) (As := [_, _, _]) (mc_saves38 (F := im4 F) b4) (lw_S q1380 q1381 q60 q1382) naX4_saves dX4_image_61 rfl (Nat.le_of_ble_eq_true rfl) (Nat.le_of_ble_eq_true rfl) (Nat.le_refl _) (Nat.le_refl _) (Nat.le_of_ble_eq_true rfl) rfl (fun r h5 n5 q => ?_)
  obtain ⟨rfl, qn, a5, b5⟩ := q
  replace qn := qn.symm
  subst qn
  replace b5 : MC s al (im5 F) FL h5 := b5
  refine ew_istore_n (t := 65) (L' := [some (.ref 33), some (.int 422)]) dX4_image_64 rfl (Nat.le_of_ble_eq_true rfl) rfl rfl ?_
  refine ew_aload_n (t := 66) dX4_image_65 rfl rfl rfl ?_
  refine ew_get (t := 69) (j := 5) (v := .ref 39) fcX4 b5.1 (Nat.le_of_ble_eq_true rfl) q1026 rfl dX4_image_66 rfl ?_
  refine ew_aload_n (t := 70) dX4_image_69 rfl rfl rfl ?_
  refine ew_get (t := 73) (j := 36) (v := .ref 58) fcX4 b5.1 (Nat.le_of_ble_eq_true rfl) q1057 rfl dX4_image_70 rfl ?_
  refine ew_iload_n (t := 74) dX4_image_73 rfl rfl rfl ?_
  refine ew_callS (t := 77) (As := [_, _, _]) (mc_saves39 (F := im5 F) b5) (lw_S q1380 q1381 q60 q1382) naX4_saves dX4_image_74 rfl (Nat.le_of_ble_eq_true rfl) (Nat.le_of_ble_eq_true rfl) (Nat.le_refl _) (Nat.le_refl _) (Nat.le_of_ble_eq_true rfl) rfl (fun r h6 n6 q => ?_)
  obtain ⟨rfl, qn, a6, b6⟩ := q
  replace qn := qn.symm
  subst qn
  replace b6 : MC s al (im6 F) FL h6 := b6
  refine ew_istore_n (t := 78) (L' := [some (.ref 33), some (.int 522)]) dX4_image_77 rfl (Nat.le_of_ble_eq_true rfl) rfl rfl ?_
  refine ew_aload_n (t := 79) dX4_image_78 rfl rfl rfl ?_
  refine ew_get (t := 82) (j := 26) (v := .ref 52) fcX4 b6.1 (Nat.le_of_ble_eq_true rfl) q1047 rfl dX4_image_79 rfl ?_
  refine ew_aload_n (t := 83) dX4_image_82 rfl rfl rfl ?_
  refine ew_get (t := 86) (j := 36) (v := .ref 58) fcX4 b6.1 (Nat.le_of_ble_eq_true rfl) q1057 rfl dX4_image_83 rfl ?_
  refine ew_iload_n (t := 87) dX4_image_86 rfl rfl rfl ?_
  refine ew_callS (t := 90) (As := [_, _, _]) (mc_saves52 (F := im6 F) b6) (lw_S q1380 q1381 q60 q1382) naX4_saves dX4_image_87 rfl (Nat.le_of_ble_eq_true rfl) (Nat.le_of_ble_eq_true rfl) (Nat.le_refl _) (Nat.le_refl _) (Nat.le_of_ble_eq_true rfl) rfl (fun r h7 n7 q => ?_)
  obtain ⟨rfl, qn, a7, b7⟩ := q
  replace qn := qn.symm
  subst qn
  replace b7 : MC s al (im7 F) FL h7 := b7
  refine ew_istore_n (t := 91) (L' := [some (.ref 33), some (.int 542)]) dX4_image_90 rfl (Nat.le_of_ble_eq_true rfl) rfl rfl ?_
  refine ew_aload_n (t := 92) dX4_image_91 rfl rfl rfl ?_
  refine ew_get (t := 95) (j := 28) (v := .ref 53) fcX4 b7.1 (Nat.le_of_ble_eq_true rfl) q1049 rfl dX4_image_92 rfl ?_
  refine ew_aload_n (t := 96) dX4_image_95 rfl rfl rfl ?_
  refine ew_get (t := 99) (j := 36) (v := .ref 58) fcX4 b7.1 (Nat.le_of_ble_eq_true rfl) q1057 rfl dX4_image_96 rfl ?_
  refine ew_iload_n (t := 100) dX4_image_99 rfl rfl rfl ?_
  refine ew_callS (t := 103) (As := [_, _, _]) (mc_saves53 (F := im7 F) b7) (lw_S q1380 q1381 q60 q1382) naX4_saves dX4_image_100 rfl (Nat.le_of_ble_eq_true rfl) (Nat.le_of_ble_eq_true rfl) (Nat.le_refl _) (Nat.le_refl _) (Nat.le_of_ble_eq_true rfl) rfl (fun r h8 n8 q => ?_)
  obtain ⟨rfl, qn, a8, b8⟩ := q
  replace qn := qn.symm
  subst qn
  replace b8 : MC s al (im8 F) FL h8 := b8
  refine ew_istore_n (t := 104) (L' := [some (.ref 33), some (.int 548)]) dX4_image_103 rfl (Nat.le_of_ble_eq_true rfl) rfl rfl ?_
  refine ew_aload_n (t := 105) dX4_image_104 rfl rfl rfl ?_
  refine ew_get (t := 108) (j := 29) (v := .ref 54) fcX4 b8.1 (Nat.le_of_ble_eq_true rfl) q1050 rfl dX4_image_105 rfl ?_
  refine ew_aload_n (t := 109) dX4_image_108 rfl rfl rfl ?_
  refine ew_get (t := 112) (j := 36) (v := .ref 58) fcX4 b8.1 (Nat.le_of_ble_eq_true rfl) q1057 rfl dX4_image_109 rfl ?_
  refine ew_iload_n (t := 113) dX4_image_112 rfl rfl rfl ?_
  refine ew_callS (t := 116) (As := [_, _, _]) (mc_saves54 (F := im8 F) b8) (lw_S q1380 q1381 q60 q1382) naX4_saves dX4_image_113 rfl (Nat.le_of_ble_eq_true rfl) (Nat.le_of_ble_eq_true rfl) (Nat.le_refl _) (Nat.le_refl _) (Nat.le_of_ble_eq_true rfl) rfl (fun r h9 n9 q => ?_)
  obtain ⟨rfl, qn, a9, b9⟩ := q
  replace qn := qn.symm
  subst qn
  replace b9 : MC s al (im9 F) FL h9 := b9
  refine ew_istore_n (t := 117) (L' := [some (.ref 33), some (.int 554)]) dX4_image_116 rfl (Nat.le_of_ble_eq_true rfl) rfl rfl ?_
  refine ew_aload_n (t := 118) dX4_image_117 rfl rfl rfl ?_
  refine ew_get (t := 121) (j := 36) (v := .ref 58) fcX4 b9.1 (Nat.le_of_ble_eq_true rfl) q1057 rfl dX4_image_118 rfl ?_
  refine ew_iload_n (t := 122) dX4_image_121 rfl rfl rfl ?_
  refine ew_aload_n (t := 123) dX4_image_122 rfl rfl rfl ?_
  refine ew_get (t := 126) (j := 25) (v := .int (s 25)) fcX4 b9.1 (Nat.le_of_ble_eq_true rfl) q1046 rfl dX4_image_123 rfl ?_
  refine ew_iast (t := 127) (j := 554) (N := 570) (h' := (hov h9 [(58, IA 570 (upd (im9 F 58) 554 (s 25)))])) (mI b9 58 rfl) (vp_in_nI (n := 554) (by omega) (by omega)) (nI_clamp (n := 554) (by omega)) dX4_image_126 (hov_up0) rfl ?_
  refine ew_aload_n (t := 128) dX4_image_127 rfl rfl rfl ?_
  refine ew_get (t := 131) (j := 36) (v := .ref 58) fcX4 b9.1 (Nat.le_of_ble_eq_true rfl) q1057 rfl dX4_image_128 rfl ?_
  refine ew_iload_n (t := 132) dX4_image_131 rfl rfl rfl ?_
  refine ew_ic1 (t := 133) dX4_image_132 rfl ?_
  refine ew_iadd (t := 134) dX4_image_133 rfl ?_
  rw [show (554 : Int32) + 1 = 555 from rfl]
  refine ew_aload_n (t := 135) dX4_image_134 rfl rfl rfl ?_
  refine ew_get (t := 138) (j := 27) (v := .int (s 27)) fcX4 b9.1 (Nat.le_of_ble_eq_true rfl) q1048 rfl dX4_image_135 rfl ?_
  refine ew_iast (t := 139) (j := 555) (N := 570) (h' := (hov h9 [(58, IA 570 (upd (upd (im9 F 58) 554 (s 25)) 555 (s 27)))])) rfl (vp_in_nI (n := 555) (by omega) (by omega)) (nI_clamp (n := 555) (by omega)) dX4_image_138 (hov_up rfl) rfl ?_
  refine ew_aload_n (t := 140) dX4_image_139 rfl rfl rfl ?_
  refine ew_ic1 (t := 141) dX4_image_140 rfl ?_
  refine ew_put (t := 144) (j := 37) (fs' := MOf (upd s 37 1) al) (h' := (hov h9 [(58, IA 570 (upd (upd (im9 F 58) 554 (s 25)) 555 (s 27))), (33, OB 4 (MOf (upd s 37 1) al))])) fcX4 b9.1 (Nat.le_of_ble_eq_true rfl) rfl q1058 (by decide) (by decide) (Nat.le_of_ble_eq_true rfl) rfl dX4_image_141 (hov_up rfl) rfl ?_
  refine ew_ic1 (t := 145) dX4_image_144 rfl ?_
  exact ew_iret rfl dX4_image_145 (Nat.le_refl _) (Nat.le_refl _) (OpR.ov (MC_I (c := 58) rfl (MC_33 (l := []) b9)) (fun k hk => (hov_fr 33 63 rfl k hk).trans ((a9 k hk).trans ((a8 k hk).trans ((a7 k hk).trans ((a6 k hk).trans ((a5 k hk).trans ((a4 k hk).trans ((a3 k hk).trans ((a2 k hk).trans (a1 k hk)))))))))))
set_option maxHeartbeats 4000000 in
theorem mc_restore {l : Launch} {G : GW} {h : AH} {n : Nat} {s : Nat → Int32} {al : Int64} {F : Nat → Nat → Int32} {FL : Nat → Int64} (mc : MC s al F FL h) : AM l G yX4_restore cX4_restore 2 (some .int) 2 0 0 [.ref 33] h n (OpR h n (rstP s F)) := by
  refine AM.of (L := [some (.ref 33), none]) (by decide) (Nat.le_of_ble_eq_true rfl) rfl ?_
  refine ew_aload_n (t := 1) dX4_restore_0 rfl rfl rfl ?_
  refine ew_get (t := 4) (j := 37) (v := .int (s 37)) fcX4 mc.1 (Nat.le_of_ble_eq_true rfl) q1058 rfl dX4_restore_1 rfl ?_
  refine ew_if_ne (t := 10) (t2 := 7) dX4_restore_4 rfl rfl (fun c_4 => ?_) (fun c_4 => ?_)
  · refine ew_aload_n (t := 11) dX4_restore_10 rfl rfl rfl ?_
    refine ew_get (t := 14) (j := 36) (v := .ref 58) fcX4 mc.1 (Nat.le_of_ble_eq_true rfl) q1057 rfl dX4_restore_11 rfl ?_
    refine ew_ic0 (t := 15) dX4_restore_14 rfl ?_
    refine ew_aload_n (t := 16) dX4_restore_15 rfl rfl rfl ?_
    refine ew_get (t := 19) (j := 0) (v := .ref 34) fcX4 mc.1 (Nat.le_of_ble_eq_true rfl) q1021 rfl dX4_restore_16 rfl ?_
    refine ew_callS (t := 22) (As := [_, _, _]) (mc_gives34 (F := F) mc) (lw_S q1387 q1388 q60 q1389) naX4_gives dX4_restore_19 rfl (Nat.le_of_ble_eq_true rfl) (Nat.le_of_ble_eq_true rfl) (Nat.le_refl _) (Nat.le_refl _) (Nat.le_of_ble_eq_true rfl) rfl (fun r h1 n1 q => ?_)
    obtain ⟨rfl, qn, a1, b1⟩ := q
    replace qn := qn.symm
    subst qn
    replace b1 : MC s al (rs1 F) FL h1 := b1
    refine ew_istore_n (t := 23) (L' := [some (.ref 33), some (.int 8)]) dX4_restore_22 rfl (Nat.le_of_ble_eq_true rfl) rfl rfl ?_
    refine ew_aload_n (t := 24) dX4_restore_23 rfl rfl rfl ?_
    refine ew_get (t := 27) (j := 36) (v := .ref 58) fcX4 b1.1 (Nat.le_of_ble_eq_true rfl) q1057 rfl dX4_restore_24 rfl ?_
    refine ew_iload_n (t := 28) dX4_restore_27 rfl rfl rfl ?_
    refine ew_aload_n (t := 29) dX4_restore_28 rfl rfl rfl ?_
    refine ew_get (t := 32) (j := 1) (v := .ref 35) fcX4 b1.1 (Nat.le_of_ble_eq_true rfl) q1022 rfl dX4_restore_29 rfl ?_
    refine ew_callS (t := 35) (As := [_, _, _]) (mc_gives35 (F := rs1 F) b1) (lw_S q1387 q1388 q60 q1389) naX4_gives dX4_restore_32 rfl (Nat.le_of_ble_eq_true rfl) (Nat.le_of_ble_eq_true rfl) (Nat.le_refl _) (Nat.le_refl _) (Nat.le_of_ble_eq_true rfl) rfl (fun r h2 n2 q => ?_)
    obtain ⟨rfl, qn, a2, b2⟩ := q
    replace qn := qn.symm
    subst qn
    replace b2 : MC s al (rs2 F) FL h2 := b2
    refine ew_istore_n (t := 36) (L' := [some (.ref 33), some (.int 15)]) dX4_restore_35 rfl (Nat.le_of_ble_eq_true rfl) rfl rfl ?_
    refine ew_aload_n (t := 37) dX4_restore_36 rfl rfl rfl ?_
    refine ew_get (t := 40) (j := 36) (v := .ref 58) fcX4 b2.1 (Nat.le_of_ble_eq_true rfl) q1057 rfl dX4_restore_37 rfl ?_
    refine ew_iload_n (t := 41) dX4_restore_40 rfl rfl rfl ?_
    refine ew_aload_n (t := 42) dX4_restore_41 rfl rfl rfl ?_
    refine ew_get (t := 45) (j := 2) (v := .ref 36) fcX4 b2.1 (Nat.le_of_ble_eq_true rfl) q1023 rfl dX4_restore_42 rfl ?_
    refine ew_callS (t := 48) (As := [_, _, _]) (mc_gives36 (F := rs2 F) b2) (lw_S q1387 q1388 q60 q1389) naX4_gives dX4_restore_45 rfl (Nat.le_of_ble_eq_true rfl) (Nat.le_of_ble_eq_true rfl) (Nat.le_refl _) (Nat.le_refl _) (Nat.le_of_ble_eq_true rfl) rfl (fun r h3 n3 q => ?_)
    obtain ⟨rfl, qn, a3, b3⟩ := q
    replace qn := qn.symm
    subst qn
    replace b3 : MC s al (rs3 F) FL h3 := b3
    refine ew_istore_n (t := 49) (L' := [some (.ref 33), some (.int 22)]) dX4_restore_48 rfl (Nat.le_of_ble_eq_true rfl) rfl rfl ?_
    refine ew_aload_n (t := 50) dX4_restore_49 rfl rfl rfl ?_
    refine ew_get (t := 53) (j := 36) (v := .ref 58) fcX4 b3.1 (Nat.le_of_ble_eq_true rfl) q1057 rfl dX4_restore_50 rfl ?_
    refine ew_iload_n (t := 54) dX4_restore_53 rfl rfl rfl ?_
    refine ew_aload_n (t := 55) dX4_restore_54 rfl rfl rfl ?_
    refine ew_get (t := 58) (j := 3) (v := .ref 37) fcX4 b3.1 (Nat.le_of_ble_eq_true rfl) q1024 rfl dX4_restore_55 rfl ?_
    refine ew_callS (t := 61) (As := [_, _, _]) (mc_gives37 (F := rs3 F) b3) (lw_S q1387 q1388 q60 q1389) naX4_gives dX4_restore_58 rfl (Nat.le_of_ble_eq_true rfl) (Nat.le_of_ble_eq_true rfl) (Nat.le_refl _) (Nat.le_refl _) (Nat.le_of_ble_eq_true rfl) rfl (fun r h4 n4 q => ?_)
    obtain ⟨rfl, qn, a4, b4⟩ := q
    replace qn := qn.symm
    subst qn
    replace b4 : MC s al (rs4 F) FL h4 := b4
    refine ew_istore_n (t := 62) (L' := [some (.ref 33), some (.int 222)]) dX4_restore_61 rfl (Nat.le_of_ble_eq_true rfl) rfl rfl ?_
    refine ew_aload_n (t := 63) dX4_restore_62 rfl rfl rfl ?_
    refine ew_get (t := 66) (j := 36) (v := .ref 58) fcX4 b4.1 (Nat.le_of_ble_eq_true rfl) q1057 rfl dX4_restore_63 rfl ?_
    refine ew_iload_n (t := 67) dX4_restore_66 rfl rfl rfl ?_
    refine ew_aload_n (t := 68) dX4_restore_67 rfl rfl rfl ?_
    refine ew_get (t := 71) (j := 4) (v := .ref 38) fcX4 b4.1 (Nat.le_of_ble_eq_true rfl) q1025 rfl dX4_restore_68 rfl ?_
    refine ew_callS (t := 74) (As := [_, _, _]) (mc_gives38 (F := rs4 F) b4) (lw_S q1387 q1388 q60 q1389) naX4_gives dX4_restore_71 rfl (Nat.le_of_ble_eq_true rfl) (Nat.le_of_ble_eq_true rfl) (Nat.le_refl _) (Nat.le_refl _) (Nat.le_of_ble_eq_true rfl) rfl (fun r h5 n5 q => ?_)
    obtain ⟨rfl, qn, a5, b5⟩ := q
    replace qn := qn.symm
    subst qn
    replace b5 : MC s al (rs5 F) FL h5 := b5
    refine ew_istore_n (t := 75) (L' := [some (.ref 33), some (.int 422)]) dX4_restore_74 rfl (Nat.le_of_ble_eq_true rfl) rfl rfl ?_
    refine ew_aload_n (t := 76) dX4_restore_75 rfl rfl rfl ?_
    refine ew_get (t := 79) (j := 36) (v := .ref 58) fcX4 b5.1 (Nat.le_of_ble_eq_true rfl) q1057 rfl dX4_restore_76 rfl ?_
    refine ew_iload_n (t := 80) dX4_restore_79 rfl rfl rfl ?_
    refine ew_aload_n (t := 81) dX4_restore_80 rfl rfl rfl ?_
    refine ew_get (t := 84) (j := 5) (v := .ref 39) fcX4 b5.1 (Nat.le_of_ble_eq_true rfl) q1026 rfl dX4_restore_81 rfl ?_
    refine ew_callS (t := 87) (As := [_, _, _]) (mc_gives39 (F := rs5 F) b5) (lw_S q1387 q1388 q60 q1389) naX4_gives dX4_restore_84 rfl (Nat.le_of_ble_eq_true rfl) (Nat.le_of_ble_eq_true rfl) (Nat.le_refl _) (Nat.le_refl _) (Nat.le_of_ble_eq_true rfl) rfl (fun r h6 n6 q => ?_)
    obtain ⟨rfl, qn, a6, b6⟩ := q
    replace qn := qn.symm
    subst qn
    replace b6 : MC s al (rs6 F) FL h6 := b6
    refine ew_istore_n (t := 88) (L' := [some (.ref 33), some (.int 522)]) dX4_restore_87 rfl (Nat.le_of_ble_eq_true rfl) rfl rfl ?_
    refine ew_aload_n (t := 89) dX4_restore_88 rfl rfl rfl ?_
    refine ew_get (t := 92) (j := 36) (v := .ref 58) fcX4 b6.1 (Nat.le_of_ble_eq_true rfl) q1057 rfl dX4_restore_89 rfl ?_
    refine ew_iload_n (t := 93) dX4_restore_92 rfl rfl rfl ?_
    refine ew_aload_n (t := 94) dX4_restore_93 rfl rfl rfl ?_
    refine ew_get (t := 97) (j := 26) (v := .ref 52) fcX4 b6.1 (Nat.le_of_ble_eq_true rfl) q1047 rfl dX4_restore_94 rfl ?_
    refine ew_callS (t := 100) (As := [_, _, _]) (mc_gives52 (F := rs6 F) b6) (lw_S q1387 q1388 q60 q1389) naX4_gives dX4_restore_97 rfl (Nat.le_of_ble_eq_true rfl) (Nat.le_of_ble_eq_true rfl) (Nat.le_refl _) (Nat.le_refl _) (Nat.le_of_ble_eq_true rfl) rfl (fun r h7 n7 q => ?_)
    obtain ⟨rfl, qn, a7, b7⟩ := q
    replace qn := qn.symm
    subst qn
    replace b7 : MC s al (rs7 F) FL h7 := b7
    refine ew_istore_n (t := 101) (L' := [some (.ref 33), some (.int 542)]) dX4_restore_100 rfl (Nat.le_of_ble_eq_true rfl) rfl rfl ?_
    refine ew_aload_n (t := 102) dX4_restore_101 rfl rfl rfl ?_
    refine ew_get (t := 105) (j := 36) (v := .ref 58) fcX4 b7.1 (Nat.le_of_ble_eq_true rfl) q1057 rfl dX4_restore_102 rfl ?_
    refine ew_iload_n (t := 106) dX4_restore_105 rfl rfl rfl ?_
    refine ew_aload_n (t := 107) dX4_restore_106 rfl rfl rfl ?_
    refine ew_get (t := 110) (j := 28) (v := .ref 53) fcX4 b7.1 (Nat.le_of_ble_eq_true rfl) q1049 rfl dX4_restore_107 rfl ?_
    refine ew_callS (t := 113) (As := [_, _, _]) (mc_gives53 (F := rs7 F) b7) (lw_S q1387 q1388 q60 q1389) naX4_gives dX4_restore_110 rfl (Nat.le_of_ble_eq_true rfl) (Nat.le_of_ble_eq_true rfl) (Nat.le_refl _) (Nat.le_refl _) (Nat.le_of_ble_eq_true rfl) rfl (fun r h8 n8 q => ?_)
    obtain ⟨rfl, qn, a8, b8⟩ := q
    replace qn := qn.symm
    subst qn
    replace b8 : MC s al (rs8 F) FL h8 := b8
    refine ew_istore_n (t := 114) (L' := [some (.ref 33), some (.int 548)]) dX4_restore_113 rfl (Nat.le_of_ble_eq_true rfl) rfl rfl ?_
    refine ew_aload_n (t := 115) dX4_restore_114 rfl rfl rfl ?_
    refine ew_get (t := 118) (j := 36) (v := .ref 58) fcX4 b8.1 (Nat.le_of_ble_eq_true rfl) q1057 rfl dX4_restore_115 rfl ?_
    refine ew_iload_n (t := 119) dX4_restore_118 rfl rfl rfl ?_
    refine ew_aload_n (t := 120) dX4_restore_119 rfl rfl rfl ?_
    refine ew_get (t := 123) (j := 29) (v := .ref 54) fcX4 b8.1 (Nat.le_of_ble_eq_true rfl) q1050 rfl dX4_restore_120 rfl ?_
    refine ew_callS (t := 126) (As := [_, _, _]) (mc_gives54 (F := rs8 F) b8) (lw_S q1387 q1388 q60 q1389) naX4_gives dX4_restore_123 rfl (Nat.le_of_ble_eq_true rfl) (Nat.le_of_ble_eq_true rfl) (Nat.le_refl _) (Nat.le_refl _) (Nat.le_of_ble_eq_true rfl) rfl (fun r h9 n9 q => ?_)
    obtain ⟨rfl, qn, a9, b9⟩ := q
    replace qn := qn.symm
    subst qn
    replace b9 : MC s al (rs9 F) FL h9 := b9
    refine ew_istore_n (t := 127) (L' := [some (.ref 33), some (.int 554)]) dX4_restore_126 rfl (Nat.le_of_ble_eq_true rfl) rfl rfl ?_
    refine ew_aload_n (t := 128) dX4_restore_127 rfl rfl rfl ?_
    refine ew_aload_n (t := 129) dX4_restore_128 rfl rfl rfl ?_
    refine ew_get (t := 132) (j := 36) (v := .ref 58) fcX4 b9.1 (Nat.le_of_ble_eq_true rfl) q1057 rfl dX4_restore_129 rfl ?_
    refine ew_iload_n (t := 133) dX4_restore_132 rfl rfl rfl ?_
    refine ew_iald (t := 134) (j := 554) (N := 570) (mI b9 58 rfl) (vp_in_nI (n := 554) (by omega) (by omega)) (nI_clamp (n := 554) (by omega)) dX4_restore_133 rfl ?_
    refine ew_put (t := 137) (j := 25) (fs' := MOf (upd s 25 ((rs9 F 58) 554)) al) (h' := (hov h9 [(33, OB 4 (MOf (upd s 25 ((rs9 F 58) 554)) al))])) fcX4 b9.1 (Nat.le_of_ble_eq_true rfl) rfl q1046 rfl rfl (Nat.le_of_ble_eq_true rfl) rfl dX4_restore_134 (hov_up0) rfl ?_
    refine ew_aload_n (t := 138) dX4_restore_137 rfl rfl rfl ?_
    refine ew_aload_n (t := 139) dX4_restore_138 rfl rfl rfl ?_
    refine ew_get (t := 142) (j := 36) (v := .ref 58) fcX4 rfl (Nat.le_of_ble_eq_true rfl) q1057 rfl dX4_restore_139 rfl ?_
    refine ew_iload_n (t := 143) dX4_restore_142 rfl rfl rfl ?_
    refine ew_ic1 (t := 144) dX4_restore_143 rfl ?_
    refine ew_iadd (t := 145) dX4_restore_144 rfl ?_
    rw [show (554 : Int32) + 1 = 555 from rfl]
    refine ew_iald (t := 146) (j := 555) (N := 570) (mI b9 58 rfl) (vp_in_nI (n := 555) (by omega) (by omega)) (nI_clamp (n := 555) (by omega)) dX4_restore_145 rfl ?_
    refine ew_put (t := 149) (j := 27) (fs' := MOf (upd (upd s 25 ((rs9 F 58) 554)) 27 ((rs9 F 58) 555)) al) (h' := (hov h9 [(33, OB 4 (MOf (upd (upd s 25 ((rs9 F 58) 554)) 27 ((rs9 F 58) 555)) al))])) fcX4 rfl (Nat.le_of_ble_eq_true rfl) rfl q1048 rfl rfl (Nat.le_of_ble_eq_true rfl) rfl dX4_restore_146 (hov_up rfl) rfl ?_
    refine ew_ic1 (t := 150) dX4_restore_149 rfl ?_
    exact ew_iret rfl dX4_restore_150 (Nat.le_refl _) (Nat.le_refl _) (by unfold rstP; rw [if_pos c_4]; exact OpR.ov (MC_33 (l := []) b9) (fun k hk => (hov_fr 33 63 rfl k hk).trans ((a9 k hk).trans ((a8 k hk).trans ((a7 k hk).trans ((a6 k hk).trans ((a5 k hk).trans ((a4 k hk).trans ((a3 k hk).trans ((a2 k hk).trans (a1 k hk)))))))))))
  · refine ew_bipush (t := 9) (v := (-4)) dX4_restore_7 (by decide) rfl ?_
    exact ew_iret rfl dX4_restore_9 (Nat.le_refl _) (Nat.le_refl _) (by unfold rstP; rw [if_neg (not_not_intro c_4)]; exact OpR.same mc)
