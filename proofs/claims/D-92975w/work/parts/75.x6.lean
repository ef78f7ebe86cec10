-- Obj fields dict_keys(['cls', 'fun', 'sname', 'refs', 'extra', 'ups'])
/-! the component: goAll; overlays whose cells are variables -/
set_option maxRecDepth 100000
theorem hv_hit {h : AH} {a : Nat} {c : AC} {l : List (Nat × AC)} : hov h ((a, c) :: l) a = some c := by
  show cond (Nat.beq a a) (some c) (hov h l a) = some c
  rw [Nat.beq_refl]; rfl
theorem hv_miss {h : AH} {a k : Nat} {c : AC} {l : List (Nat × AC)} (hk : ¬ k = a) : hov h ((a, c) :: l) k = hov h l k := by
  show cond (Nat.beq k a) (some c) (hov h l k) = hov h l k
  rw [beq_ff hk]; rfl
theorem hov_set_hit {h : AH} {a : Nat} {c c' : AC} {l : List (Nat × AC)} : va_up (hov h ((a, c) :: l)) a (some c') = hov h ((a, c') :: l) := by
  funext k
  by_cases hk : k = a
  · rw [hk, va_up_self, hv_hit]
  · rw [va_up_ne _ _ hk, hv_miss hk, hv_miss hk]
theorem hov_set_miss {h : AH} {a b : Nat} {c c' : AC} {l l' : List (Nat × AC)} (hab : ¬ a = b) (e : va_up (hov h l) a (some c') = hov h l') : va_up (hov h ((b, c) :: l)) a (some c') = hov h ((b, c) :: l') := by
  funext k
  have ek := congrFun e k
  by_cases hk : k = a
  · subst hk
    rw [va_up_self] at ek ⊢
    rw [hv_miss hab]; exact ek
  · rw [va_up_ne _ _ hk] at ek ⊢
    by_cases hb : k = b
    · rw [hb, hv_hit, hv_hit]
    · rw [hv_miss hb, hv_miss hb]; exact ek
theorem hov_set_nil {h : AH} {a : Nat} {c' : AC} : va_up (hov h []) a (some c') = hov h [(a, c')] := hov_up0
section GAL
variable (F35 F36 : Nat → Int32) (nr nt nf : Int32) (a T S U r : Nat) (nd : ND)
def gaW (k : Nat) : List WY := (List.range k).flatMap (wcN F35 F36 nr nt nf a T S U r 0 nd)
end GAL
section GAM
variable {F35 F36 : Nat → Int32} {nr nt nf : Int32} {a T S U r : Nat} {nd : ND}
theorem gaW_s (k : Nat) : gaW F35 F36 nr nt nf a T S U r nd (k + 1) = gaW F35 F36 nr nt nf a T S U r nd k ++ goW F35 F36 nr nt nf a T S U r 0 nd (k / 3, k % 3 + 1, nd.2.2.2.1, nd.2.2.2.2.1) := by
  unfold gaW
  rw [List.range_succ, List.flatMap_append, List.flatMap_cons, List.flatMap_nil, List.append_nil]
  rfl
theorem gaW_app : ∀ d k, ∃ b, gaW F35 F36 nr nt nf a T S U r nd (k + d) = gaW F35 F36 nr nt nf a T S U r nd k ++ b
  | 0, k => ⟨[], (List.append_nil _).symm⟩
  | d + 1, k => by
    obtain ⟨b, hb⟩ := gaW_app d k
    exact ⟨_, by rw [show k + (d + 1) = (k + d) + 1 by omega, gaW_s, hb, List.append_assoc]⟩
end GAM
/-- the component's fields beside those of the walk -/
def kpX (s s' : Nat → Int32) : Prop := ∀ j, j < 9 ∨ 15 < j → s' j = s j
def GAQ {σ : Type} (K : σ → AH → Prop) (tS : σ → WY → σ × Bool) (n : Nat) (x : σ) (s : Nat → Int32) (ws : List WY) : Option Value → AH → Nat → Prop := fun r h' n' => r = none ∧ n' = n ∧ ∃ hb' s' ce', K (foldW tS x ws).1 hb' ∧ h' = XH hb' s' ce' ∧ kpX s s'
set_option maxHeartbeats 4000000 in
theorem lx_goAll {l : Launch} {G : GW} {σ : Type} {K : σ → AH → Prop} {tS : σ → WY → σ × Bool} {to n : Nat} {FS FF F35 FT : Nat → Int32} {wo any nr nt nf : Int32} {a H T S U : Nat} (kb : KB K FS FF FT) (cf : CFX FS FF F35 wo any nr nt nf a H T S U) (hT : TLc l G K tS to n H) {b : Nat} (hb1 : b < 100) {x : σ} {s s0 : Nat → Int32} (hs0 : kpX s0 s) (e11 : s 11 = 0) (e12 : s 12 = 0) (e13 : s 13 = 0) (e14 : s 14 = wo) (e15 : s 15 = any) {o2 : Option Value} : ∀ (f k : Nat) (hb : AH) (ce : Nat → Int32) (cc pp : Int32), K (foldW tS x (gaW F35 FT nr nt nf a T S U (H - 1) (rtN b) k)).1 hb → k + f = 24 → ce 0 = nI b → EW l G yX0_goAll cX0_goAll 6 none (30) 0 0 (GAQ K tS n x s0 (wyN F35 FT nr nt nf a T S U H 0 (rtN b))) 0 0 (hov hb [(1, OB 0 (XOf (upd (upd s 9 cc) 10 pp))), (16, IA 7 ce)]) n 46 [some (.ref 1), some (.ref to), o2, some (.int any), some (.int (b2i (foldW tS x (gaW F35 FT nr nt nf a T S U (H - 1) (rtN b) k)).2)), some (.int (nI k))] [] := by
  intro f
  induction f with
  | zero =>
    intro k hb ce cc pp hkb hk hce
    obtain ⟨c1, c2, c3, c4, c5, c6, c7, c8, c9, c10, c11, fl, okr, eFF⟩ := id cf
    have eL : (wyN F35 FT nr nt nf a T S U H 0 (rtN b)) = (gaW F35 FT nr nt nf a T S U (H - 1) (rtN b) 24) := by rw [show H = (H - 1) + 1 by omega, wyN_s]; rfl
    refine ew_iload (t := 48) dX0_goAll_46 rfl rfl ?_
    refine ew_bipush (t := 50) (v := 24) dX0_goAll_48 (by decide) rfl ?_
    refine ew_icmp_ge (t := 92) (t2 := 53) dX0_goAll_50 rfl rfl (fun c_50 => ?_) (fun c_50 => ?_)
    · exact ew_vret rfl dX0_goAll_92 (Nat.le_refl _) (Nat.le_refl _) (by rw [show k = 24 by omega] at hkb; rw [eL]; exact ⟨rfl, rfl, hb, _, ce, hkb, rfl, fun j hj => by rw [pk_un (by omega), pk_un (by omega)]; exact hs0 j hj⟩)
    · exact absurd (show (24 : Int32) ≤ nI k by rw [show k = 24 by omega]; decide) c_50
  | succ f ih =>
    intro k hb ce cc pp hkb hk hce
    obtain ⟨c1, c2, c3, c4, c5, c6, c7, c8, c9, c10, c11, fl, okr, eFF⟩ := id cf
    have eL : (wyN F35 FT nr nt nf a T S U H 0 (rtN b)) = (gaW F35 FT nr nt nf a T S U (H - 1) (rtN b) 24) := by rw [show H = (H - 1) + 1 by omega, wyN_s]; rfl
    refine ew_iload (t := 48) dX0_goAll_46 rfl rfl ?_
    refine ew_bipush (t := 50) (v := 24) dX0_goAll_48 (by decide) rfl ?_
    refine ew_icmp_ge (t := 92) (t2 := 53) dX0_goAll_50 rfl rfl (fun c_50 => ?_) (fun c_50 => ?_)
    · exact absurd c_50 (nI_ge (b := 24) (by omega) (by omega))
    · refine ew_iload (t := 55) dX0_goAll_53 rfl rfl ?_
      refine ew_if_eq (t := 92) (t2 := 58) dX0_goAll_55 rfl rfl (fun c_55 => ?_) (fun c_55 => ?_)
      · exact ew_vret rfl dX0_goAll_92 (Nat.le_refl _) (Nat.le_refl _) (by obtain ⟨b', hb'⟩ := gaW_app (F35 := F35) (F36 := FT) (nr := nr) (nt := nt) (nf := nf) (a := a) (T := T) (S := S) (U := U) (r := H - 1) (nd := (rtN b)) (24 - k) k; rw [show k + (24 - k) = 24 by omega] at hb'; rw [eL, hb']; unfold GAQ; rw [foldW_stop (b2i_0.mp c_55)]; exact ⟨rfl, rfl, hb, _, ce, hkb, rfl, fun j hj => by rw [pk_un (by omega), pk_un (by omega)]; exact hs0 j hj⟩)
      · refine ew_aload_n (t := 59) dX0_goAll_58 rfl rfl rfl ?_
        refine ew_iload (t := 61) dX0_goAll_59 rfl rfl ?_
        refine ew_ic3 (t := 62) dX0_goAll_61 rfl ?_
        refine ew_idiv (t := 63) dX0_goAll_62 (by decide) rfl ?_
        rw [(cod3 k (by omega)).1]
        refine ew_put (t := 66) (j := 9) (fs' := XOf (upd (upd s 9 (nI (k / 3))) 10 pp)) (h' := (hov hb [(1, OB 0 (XOf (upd (upd s 9 (nI (k / 3))) 10 pp))), (16, IA 7 ce)])) fcX0 rfl (Nat.le_of_ble_eq_true rfl) rfl q269 rfl rfl (Nat.le_of_ble_eq_true rfl) rfl dX0_goAll_63 (hov_up rfl) rfl ?_
        refine ew_aload_n (t := 67) dX0_goAll_66 rfl rfl rfl ?_
        refine ew_ic1 (t := 68) dX0_goAll_67 rfl ?_
        refine ew_iload (t := 70) dX0_goAll_68 rfl rfl ?_
        refine ew_ic3 (t := 71) dX0_goAll_70 rfl ?_
        refine ew_irem (t := 72) dX0_goAll_71 (by decide) rfl ?_
        refine ew_iadd (t := 73) dX0_goAll_72 rfl ?_
        rw [show (1 : Int32) + (nI k - nI k / 3 * 3) = nI (k % 3 + 1) from by rw [Int32.add_comm]; exact (cod3 k (by omega)).2]
        refine ew_put (t := 76) (j := 10) (fs' := XOf (upd (upd s 9 (nI (k / 3))) 10 (nI (k % 3 + 1)))) (h' := (hov hb [(1, OB 0 (XOf (upd (upd s 9 (nI (k / 3))) 10 (nI (k % 3 + 1))))), (16, IA 7 ce)])) fcX0 rfl (Nat.le_of_ble_eq_true rfl) rfl q270 rfl rfl (Nat.le_of_ble_eq_true rfl) rfl dX0_goAll_73 (hov_up rfl) rfl ?_
        refine ew_aload_n (t := 77) dX0_goAll_76 rfl rfl rfl ?_
        refine ew_aload_n (t := 78) dX0_goAll_77 rfl rfl rfl ?_
        refine ew_ic0 (t := 79) dX0_goAll_78 rfl ?_
        refine ew_bipush (t := 81) (v := 32) dX0_goAll_79 (by decide) rfl ?_
        have hX : (foldW tS x (gaW F35 FT nr nt nf a T S U (H - 1) (rtN b) k)).2 = true := b2i_1.mp c_55
        have e1 : (foldW tS x (gaW F35 FT nr nt nf a T S U (H - 1) (rtN b) (k + 1))) = foldW tS (foldW tS x (gaW F35 FT nr nt nf a T S U (H - 1) (rtN b) k)).1 (goW F35 FT nr nt nf a T S U (H - 1) 0 (rtN b) (k / 3, k % 3 + 1, 0, 0)) := by rw [gaW_s, foldW_on hX]; rfl
        have gg := ax_goOn kb cf hT (H - 1) 0 (rtN b) (k / 3, k % 3 + 1, 0, 0) (foldW tS x (gaW F35 FT nr nt nf a T S U (H - 1) (rtN b) k)).1 hb (upd (upd s 9 (nI (k / 3))) 10 (nI (k % 3 + 1))) ce hkb (by omega) ⟨fun _ _ => hb1, by show 0 < 8; omega, Nat.le_refl _, by show 1 ≤ 3; omega, Nat.zero_le _, Nat.zero_le _, Nat.zero_le _, Nat.one_pos, Nat.le_refl _⟩ ⟨by show k / 3 < 8; omega, by show 1 ≤ k % 3 + 1; omega, by show k % 3 + 1 ≤ 3; omega, Nat.zero_le _, Nat.zero_le _⟩ (fun j hj => by rw [show j = 0 by omega]; exact hce) ⟨rfl, rfl, e11, e12, e13, e14, e15⟩
        refine ew_callV (t := 84) (As := [_, _, _]) (gg) (fcX0).1 rfl (lw_V q425 q427 qs11 q51 q428) rfl naX0_goOn dX0_goAll_81 rfl (by omega) (Nat.le_of_ble_eq_true rfl) (Nat.le_refl _) (Nat.le_refl _) (Nat.le_of_ble_eq_true rfl) rfl (fun rr h9 n9 qq => ?_)
        obtain ⟨qn, rfl, hb2, ce1, hk2, rfl, hce1⟩ := qq
        replace qn := qn.symm
        subst qn
        refine ew_istore (t := 86) (L' := [some (.ref 1), some (.ref to), o2, some (.int any), some (.int (b2i (foldW tS (foldW tS x (gaW F35 FT nr nt nf a T S U (H - 1) (rtN b) k)).1 (goW F35 FT nr nt nf a T S U (H - 1) 0 (rtN b) (k / 3, k % 3 + 1, 0, 0))).2)), some (.int (nI k))]) dX0_goAll_84 (Nat.le_of_ble_eq_true rfl) rfl rfl ?_
        refine ew_iinc (t := 89) (x := (nI k)) (v := ((nI k) + 1)) (L' := [some (.ref 1), some (.ref to), o2, some (.int any), some (.int (b2i (foldW tS (foldW tS x (gaW F35 FT nr nt nf a T S U (H - 1) (rtN b) k)).1 (goW F35 FT nr nt nf a T S U (H - 1) 0 (rtN b) (k / 3, k % 3 + 1, 0, 0))).2)), some (.int ((nI k) + 1))]) dX0_goAll_86 rfl rfl (Nat.le_of_ble_eq_true rfl) rfl rfl ?_
        refine ew_goto (t := 46) dX0_goAll_89 rfl ?_
        rw [← e1] at hk2
        rw [nI_1, ← e1]
        exact ih (k + 1) hb2 ce1 (nI (k / 3)) (nI (k % 3 + 1)) hk2 (by omega) ((hce1 0 (Nat.le_refl _)).trans hce)
set_option maxHeartbeats 4000000 in
theorem ax_goAll {l : Launch} {G : GW} {σ : Type} {K : σ → AH → Prop} {tS : σ → WY → σ × Bool} {to n : Nat} {FS FF F35 FT : Nat → Int32} {wo any nr nt nf : Int32} {a H T S U : Nat} (kb : KB K FS FF FT) (cf : CFX FS FF F35 wo any nr nt nf a H T S U) (hT : TLc l G K tS to n H) (hany : any = 0 ∨ any = 1) {b : Nat} (hb1 : b < 100) (hF1 : FS 1 = nI b) {x : σ} {hb : AH} (hk : K x hb) (s ce : Nat → Int32) : AM l G yX0_goAll cX0_goAll 6 none 30 0 0 [.ref 1, .ref to, .int wo, .int any] (XH hb s ce) n (GAQ K tS n x s (wyN F35 FT nr nt nf a T S U H 0 (rtN b))) := by
  refine AM.of (L := [some (.ref 1), some (.ref to), some (.int wo), some (.int any), none, none]) (by decide) (Nat.le_of_ble_eq_true rfl) rfl ?_
  refine ew_aload_n (t := 1) dX0_goAll_0 rfl rfl rfl ?_
  refine ew_iload_n (t := 2) dX0_goAll_1 rfl rfl rfl ?_
  refine ew_put (t := 5) (j := 14) (fs' := XOf (upd s 14 wo)) (h' := (hov hb [(1, OB 0 (XOf (upd s 14 wo))), (16, IA 7 ce)])) fcX0 rfl (Nat.le_of_ble_eq_true rfl) rfl q276 rfl rfl (Nat.le_of_ble_eq_true rfl) rfl dX0_goAll_2 (hov_up rfl) rfl ?_
  refine ew_aload_n (t := 6) dX0_goAll_5 rfl rfl rfl ?_
  refine ew_iload_n (t := 7) dX0_goAll_6 rfl rfl rfl ?_
  refine ew_put (t := 10) (j := 15) (fs' := XOf (upd (upd s 14 wo) 15 any)) (h' := (hov hb [(1, OB 0 (XOf (upd (upd s 14 wo) 15 any))), (16, IA 7 ce)])) fcX0 rfl (Nat.le_of_ble_eq_true rfl) rfl q277 (by rcases hany with e | e <;> (rw [e]; decide)) (by rcases hany with e | e <;> (rw [e]; decide)) (Nat.le_of_ble_eq_true rfl) rfl dX0_goAll_7 (hov_up rfl) rfl ?_
  refine ew_aload_n (t := 11) dX0_goAll_10 rfl rfl rfl ?_
  refine ew_get (t := 14) (j := 8) (v := .ref 16) fcX0 rfl (Nat.le_of_ble_eq_true rfl) q267 rfl dX0_goAll_11 rfl ?_
  refine ew_ic0 (t := 15) dX0_goAll_14 rfl ?_
  refine ew_aload_n (t := 16) dX0_goAll_15 rfl rfl rfl ?_
  refine ew_get (t := 19) (j := 0) (v := .ref 2) fcX0 rfl (Nat.le_of_ble_eq_true rfl) q255 rfl dX0_goAll_16 rfl ?_
  refine ew_getN (t := 22) (j := 0) (v := .ref 3) fcX1 (kb _ _ hk).1 (Nat.le_of_ble_eq_true rfl) q127 rfl dX0_goAll_19 rfl ?_
  refine ew_ic1 (t := 23) dX0_goAll_22 rfl ?_
  refine ew_iald (t := 24) (j := 1) (N := 8) (kb _ _ hk).2.1 (vpI (by decide)) (by decide) dX0_goAll_23 rfl ?_
  rw [hF1]
  refine ew_iast (t := 25) (j := 0) (N := 7) (h' := (hov hb [(1, OB 0 (XOf (upd (upd s 14 wo) 15 any))), (16, IA 7 (upd ce 0 (nI b)))])) rfl (vpI (by decide)) (by decide) dX0_goAll_24 (hov_up rfl) rfl ?_
  refine ew_aload_n (t := 26) dX0_goAll_25 rfl rfl rfl ?_
  refine ew_ic0 (t := 27) dX0_goAll_26 rfl ?_
  refine ew_put (t := 30) (j := 11) (fs' := XOf (upd (upd (upd s 11 0) 14 wo) 15 any)) (h' := (hov hb [(1, OB 0 (XOf (upd (upd (upd s 11 0) 14 wo) 15 any))), (16, IA 7 (upd ce 0 (nI b)))])) fcX0 rfl (Nat.le_of_ble_eq_true rfl) rfl q272 rfl rfl (Nat.le_of_ble_eq_true rfl) rfl dX0_goAll_27 (hov_up rfl) rfl ?_
  refine ew_aload_n (t := 31) dX0_goAll_30 rfl rfl rfl ?_
  refine ew_ic0 (t := 32) dX0_goAll_31 rfl ?_
  refine ew_put (t := 35) (j := 12) (fs' := XOf (upd (upd (upd (upd s 11 0) 12 0) 14 wo) 15 any)) (h' := (hov hb [(1, OB 0 (XOf (upd (upd (upd (upd s 11 0) 12 0) 14 wo) 15 any))), (16, IA 7 (upd ce 0 (nI b)))])) fcX0 rfl (Nat.le_of_ble_eq_true rfl) rfl q274 (by decide) (by decide) (Nat.le_of_ble_eq_true rfl) rfl dX0_goAll_32 (hov_up rfl) rfl ?_
  refine ew_aload_n (t := 36) dX0_goAll_35 rfl rfl rfl ?_
  refine ew_ic0 (t := 37) dX0_goAll_36 rfl ?_
  refine ew_put (t := 40) (j := 13) (fs' := XOf (upd (upd (upd (upd (upd s 11 0) 12 0) 13 0) 14 wo) 15 any)) (h' := (hov hb [(1, OB 0 (XOf (upd (upd (upd (upd (upd s 11 0) 12 0) 13 0) 14 wo) 15 any))), (16, IA 7 (upd ce 0 (nI b)))])) fcX0 rfl (Nat.le_of_ble_eq_true rfl) rfl q275 rfl rfl (Nat.le_of_ble_eq_true rfl) rfl dX0_goAll_37 (hov_up rfl) rfl ?_
  refine ew_ic1 (t := 41) dX0_goAll_40 rfl ?_
  refine ew_istore (t := 43) (L' := [some (.ref 1), some (.ref to), some (.int wo), some (.int any), some (.int 1), none]) dX0_goAll_41 (Nat.le_of_ble_eq_true rfl) rfl rfl ?_
  refine ew_ic0 (t := 44) dX0_goAll_43 rfl ?_
  refine ew_istore (t := 46) (L' := [some (.ref 1), some (.ref to), some (.int wo), some (.int any), some (.int 1), some (.int 0)]) dX0_goAll_44 (Nat.le_of_ble_eq_true rfl) rfl rfl ?_
  refine EW.heap (h' := XH hb (upd (upd (upd (upd (upd (upd (upd s 11 0) 12 0) 13 0) 14 wo) 15 any) 9 ((upd (upd (upd (upd (upd s 11 0) 12 0) 13 0) 14 wo) 15 any) 9)) 10 ((upd (upd (upd (upd (upd s 11 0) 12 0) 13 0) 14 wo) 15 any) 10)) (upd ce 0 (nI b))) (by rw [upd_same (s := (upd (upd (upd (upd (upd s 11 0) 12 0) 13 0) 14 wo) 15 any)) (k := 9) rfl, upd_same (s := (upd (upd (upd (upd (upd s 11 0) 12 0) 13 0) 14 wo) 15 any)) (k := 10) rfl]) ?_
  exact lx_goAll (s := (upd (upd (upd (upd (upd s 11 0) 12 0) 13 0) 14 wo) 15 any)) kb cf hT hb1 (fun j hj => by rw [pk_un (by omega), pk_un (by omega), pk_un (by omega), pk_un (by omega), pk_un (by omega)]) rfl rfl rfl rfl rfl 24 0 _ _ _ _ hk (by omega) pk_us
