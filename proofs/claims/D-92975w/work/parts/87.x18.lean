-- Obj fields dict_keys(['cls', 'fun', 'sname', 'refs', 'extra', 'ups'])
/-! the component: its lists as a whole; findOdds' inner loops -/
set_option maxRecDepth 100000
/-- the list at c holds np objects of a kind, with these fields -/
def LSx (h : AH) (n c ci np : Nat) (O : Nat → List Value) : Prop := np ≤ 4 ∧ ∃ (mo : Int32) (e : Nat), h c = some (OB 12 [.int mo, .ref e, .int (nI np)]) ∧ ((e = 0 ∧ np = 0) ∨ (63 ≤ e ∧ e < n ∧ ∃ f, h e = some (RA 10 f) ∧ ∀ j, j < np → ∃ p, f j = some p ∧ 63 ≤ p ∧ p < n ∧ h p = some (OB ci (O j))))
theorem LSx.mono {h h' : AH} {n n' c ci np : Nat} {O : Nat → List Value} (ls : LSx h n c ci np O) (hc : c < n) (e : ∀ k, k < n → (k = c ∨ 63 ≤ k) → h' k = h k) (hn : n ≤ n') : LSx h' n' c ci np O := by
  obtain ⟨h4, mo, ee, xc, hd⟩ := ls
  refine ⟨h4, mo, ee, (e c hc (Or.inl rfl)).trans xc, ?_⟩
  rcases hd with hd | ⟨h1, h2, f, xe, hf⟩
  · exact Or.inl hd
  · refine Or.inr ⟨h1, by omega, f, (e ee h2 (Or.inr h1)).trans xe, fun j hj => ?_⟩
    obtain ⟨p, p1, p2, p3, p4⟩ := hf j hj
    exact ⟨p, p1, p2, by omega, (e p p3 (Or.inr p2)).trans p4⟩
theorem LSx.size {h : AH} {n c ci np : Nat} {O : Nat → List Value} (ls : LSx h n c ci np O) : ∃ mo e, h c = some (OB 12 [.int mo, .ref e, .int (nI np)]) ∧ ∀ (l : Launch) (G : GW) (n' : Nat), AM l G yJ2_size cJ2_size 1 (some .int) 0 0 0 [.ref c] h n' (Qi (nI np) h n') := by
  obtain ⟨h4, mo, ee, xc, hd⟩ := ls
  exact ⟨mo, ee, xc, fun l G n' => al_size xc⟩
theorem LSx.get {h : AH} {n c ci np k : Nat} {O : Nat → List Value} (ls : LSx h n c ci np O) (hk : k < np) : ∃ mo e p, h c = some (OB 12 [.int mo, .ref e, .int (nI np)]) ∧ 63 ≤ p ∧ p < n ∧ h p = some (OB ci (O k)) ∧ ∀ (l : Launch) (G : GW) (n' : Nat), AM l G yJ2_get cJ2_get 2 (some (.object "java/lang/Object")) 2 0 0 [.ref c, .int (nI k)] h n' (Qr p h n') := by
  obtain ⟨h4, mo, ee, xc, hd⟩ := ls
  rcases hd with ⟨h1, h2⟩ | ⟨h1, h2, f, xe, hf⟩
  · omega
  · obtain ⟨p, p1, p2, p3, p4⟩ := hf k hk
    exact ⟨mo, ee, p, xc, p2, p3, p4, fun l G n' => al_get hk (by omega) xc xe p1⟩
def pcO (F : Nat → Nat → Int32) (j : Nat) : List Value := [.int (F 52 (5 * j)), .int (F 52 (5 * j + 1)), .int (F 52 (5 * j + 2)), .int (F 52 (5 * j + 3)), .int (F 52 (5 * j + 4))]
def drO (F : Nat → Nat → Int32) (j : Nat) : List Value := [.int (F 53 j), .int (F 54 j)]
/-- what the component reads beside the ways: what is told, the lists -/
def XR (F : Nat → Nat → Int32) (np nd : Nat) (h : AH) (n : Nat) : Prop := (∃ s, h 1 = some (XO s)) ∧ XT F h ∧ LSx h n 9 8 np (pcO F) ∧ LSx h n 10 9 nd (drO F)
/-- the numbers of pieces, drags, seas are right -/
def OKP (F : Nat → Nat → Int32) (np nd : Nat) : Prop := (∀ j, j < np → ∃ c0 N, c0 < 100 ∧ N < 100 ∧ F 52 (5 * j) = nI c0 ∧ F 52 (5 * j + 1) = nI N) ∧ (∀ j, j < nd → ∃ d, 1 ≤ d ∧ d ≤ 7 ∧ F 54 j = nI d) ∧ (∀ j, j < 200 → ∃ u, u ≤ 8 ∧ F 37 j = nI u) ∧ ∃ w, w ≤ 8 ∧ F 34 7 = nI w
theorem fitI_3 (wm : Bool) (c c0 : Int32) : fitI wm c c0 = nI 0 ∨ fitI wm c c0 = nI 1 ∨ fitI wm c c0 = nI 4 := by
  unfold fitI
  split
  · split
    · split
      · split
        · exact Or.inr (Or.inl rfl)
        · exact Or.inr (Or.inr rfl)
      · exact Or.inl rfl
    · exact Or.inl rfl
  · exact Or.inl rfl
def ftN (F : Nat → Nat → Int32) (k c : Nat) : Nat := (fitF (F 52) (F 37) (F 38) (F 34 7) (5 * k) c).toNatClampNeg
theorem ftN_s (F : Nat → Nat → Int32) (k c : Nat) : fitF (F 52) (F 37) (F 38) (F 34 7) (5 * k) c = nI (ftN F k c) ∧ ftN F k c ≤ 4 := by
  unfold ftN
  rcases fitI_3 (wmF (F 52) (F 37) (F 38) (F 34 7) (5 * k) c (F 52 (5 * k + 1)).toNatClampNeg) (nI (drIt (F 37) (F 34 7) (F 52 (5 * k + 2)) c (F 52 (5 * k + 1)).toNatClampNeg)) (F 52 (5 * k)) with e | e | e
  · rw [show fitF (F 52) (F 37) (F 38) (F 34 7) (5 * k) c = nI 0 from e]; decide
  · rw [show fitF (F 52) (F 37) (F 38) (F 34 7) (5 * k) c = nI 1 from e]; decide
  · rw [show fitF (F 52) (F 37) (F 38) (F 34 7) (5 * k) c = nI 4 from e]; decide
/-- what pieces, what drags make of a cell's sum; some may be left out -/
def pN (F : Nat → Nat → Int32) (lp : Nat → Bool) (c : Nat) : Nat → Nat
  | 0 => 1
  | k + 1 => pN F lp c k * (if lp k = true then 1 else ftN F k c)
def dfN (F : Nat → Nat → Int32) (k c : Nat) : Nat := if F 53 k = nI c then 8 - (F 54 k).toNatClampNeg else 8
def dN (F : Nat → Nat → Int32) (ld : Bool) (c : Nat) : Nat → Nat
  | 0 => 1
  | k + 1 => dN F ld c k * (if ld = true then 1 else dfN F k c)
theorem pN_le {F : Nat → Nat → Int32} {lp : Nat → Bool} {c : Nat} : ∀ k, pN F lp c k ≤ 4 ^ k
  | 0 => Nat.le_refl _
  | k + 1 => by
    rw [pN, Nat.pow_succ]
    refine Nat.mul_le_mul (pN_le k) ?_
    split
    · omega
    · exact (ftN_s F k c).2
theorem dN_le {F : Nat → Nat → Int32} {ld : Bool} {c : Nat} : ∀ k, dN F ld c k ≤ 8 ^ k
  | 0 => Nat.le_refl _
  | k + 1 => by
    rw [dN, Nat.pow_succ]
    refine Nat.mul_le_mul (dN_le k) ?_
    split
    · omega
    · unfold dfN; split <;> omega
theorem pN_0 {F : Nat → Nat → Int32} {lp : Nat → Bool} {c e0 : Nat} : ∀ d k, e0 * pN F lp c k = 0 → e0 * pN F lp c (k + d) = 0
  | 0, k, h => h
  | d + 1, k, h => by
    rw [show k + (d + 1) = (k + d) + 1 by omega, pN, ← Nat.mul_assoc, pN_0 d k h, Nat.zero_mul]
theorem fo_p {F : Nat → Nat → Int32} {lp : Nat → Bool} {c e0 k : Nat} {wo : Int32} (h : lp k = decide (wo = 8 + nI k)) : lN (e0 * pN F lp c k) * (if ¬ wo = 8 + nI k then (fitF (F 52) (F 37) (F 38) (F 34 7) (5 * k) c).toInt64 else 1) = lN (e0 * pN F lp c (k + 1)) := by
  rw [pN, h]
  by_cases q : wo = 8 + nI k
  · rw [if_neg (not_not_intro q), decide_eq_true q, if_pos rfl, Nat.mul_one, Int64.mul_one]
  · rw [if_pos q, decide_eq_false q, if_neg (by decide), (ftN_s F k c).1, nI_l (by have := (ftN_s F k c).2; omega), lN_mul, Nat.mul_assoc]
set_option maxHeartbeats 600000 in
theorem lx_fo1 {l : Launch} {G : GW} {h : AH} {n : Nat} {F : Nat → Nat → Int32} {np nd n2 : Nat} (xr : XR F np nd h n2) (ok : OKP F np nd) {Q : Option Value → AH → Nat → Prop} {wo : Int32} {tc en c : Nat} {al : Int64} {e0 : Nat} {lp : Nat → Bool} (hc : c < 100) (he0 : e0 < 2 ^ 30) (hlp : ∀ j, j < np → lp j = decide (wo = 8 + nI j)) (kk : ∀ o9 : Option Value, EW l G yX0_findOdds cX0_findOdds 10 (some .long) 33 2 101 Q 2 101 h n 115 [some (.ref 1), some (.int wo), some (.ref tc), some (.ref en), some (.long al), none, some (.int (nI c)), some (.long (lN (e0 * pN F lp c np))), none, o9] []) : ∀ (f1 k : Nat), k + f1 = np → EW l G yX0_findOdds cX0_findOdds 10 (some .long) 33 2 101 Q 2 101 h n 40 [some (.ref 1), some (.int wo), some (.ref tc), some (.ref en), some (.long al), none, some (.int (nI c)), some (.long (lN (e0 * pN F lp c k))), none, some (.int (nI k))] [] := by
  intro f1
  induction f1 with
  | zero =>
    intro k hk
    obtain ⟨s, x1⟩ := xr.1
    have hnp := xr.2.2.1.1
    obtain ⟨mo, e, xc, hsz⟩ := xr.2.2.1.size
    have hb4 : pN F lp c k ≤ 4 ^ 4 := Nat.le_trans (pN_le k) (Nat.pow_le_pow_right (by omega) (by omega))
    have hbb : e0 * pN F lp c k < 2 ^ 40 := Nat.lt_of_le_of_lt (Nat.mul_le_mul (Nat.le_of_lt he0) hb4) (by decide)
    refine ew_iload (t := 42) dX0_findOdds_40 rfl rfl ?_
    refine ew_aload_n (t := 43) dX0_findOdds_42 rfl rfl rfl ?_
    refine ew_get (t := 46) (j := 0) (v := .ref 2) fcX0 x1 (Nat.le_of_ble_eq_true rfl) q255 rfl dX0_findOdds_43 rfl ?_
    refine ew_getN (t := 49) (j := 6) (v := .ref 9) fcX1 xr.2.1.1 (Nat.le_of_ble_eq_true rfl) q140 rfl dX0_findOdds_46 rfl ?_
    refine ew_callF (t := 54) (As := []) (hsz l G n) (fcJ2).1 xc (lw_F q557 q561 q563 q55 q565) fw_size naI_J2_size dX0_findOdds_49 rfl (Nat.le_of_ble_eq_true rfl) (Nat.le_of_ble_eq_true rfl) (by omega) (by omega) (Nat.le_of_ble_eq_true rfl) rfl (qi ?_)
    refine ew_icmp_ge (t := 115) (t2 := 57) dX0_findOdds_54 rfl rfl (fun c_54 => ?_) (fun c_54 => ?_)
    · have ek : k = np := by omega
      subst ek
      exact kk _
    · exact absurd (show nI np ≤ nI k by rw [show k = np by omega]; exact Int32.le_refl _) c_54
  | succ f1 ih =>
    intro k hk
    obtain ⟨s, x1⟩ := xr.1
    have hnp := xr.2.2.1.1
    obtain ⟨mo, e, xc, hsz⟩ := xr.2.2.1.size
    have hb4 : pN F lp c k ≤ 4 ^ 4 := Nat.le_trans (pN_le k) (Nat.pow_le_pow_right (by omega) (by omega))
    have hbb : e0 * pN F lp c k < 2 ^ 40 := Nat.lt_of_le_of_lt (Nat.mul_le_mul (Nat.le_of_lt he0) hb4) (by decide)
    refine ew_iload (t := 42) dX0_findOdds_40 rfl rfl ?_
    refine ew_aload_n (t := 43) dX0_findOdds_42 rfl rfl rfl ?_
    refine ew_get (t := 46) (j := 0) (v := .ref 2) fcX0 x1 (Nat.le_of_ble_eq_true rfl) q255 rfl dX0_findOdds_43 rfl ?_
    refine ew_getN (t := 49) (j := 6) (v := .ref 9) fcX1 xr.2.1.1 (Nat.le_of_ble_eq_true rfl) q140 rfl dX0_findOdds_46 rfl ?_
    refine ew_callF (t := 54) (As := []) (hsz l G n) (fcJ2).1 xc (lw_F q557 q561 q563 q55 q565) fw_size naI_J2_size dX0_findOdds_49 rfl (Nat.le_of_ble_eq_true rfl) (Nat.le_of_ble_eq_true rfl) (by omega) (by omega) (Nat.le_of_ble_eq_true rfl) rfl (qi ?_)
    refine ew_icmp_ge (t := 115) (t2 := 57) dX0_findOdds_54 rfl rfl (fun c_54 => ?_) (fun c_54 => ?_)
    · exact absurd c_54 (nI_ge (by omega) (by omega))
    · refine ew_lload (t := 59) dX0_findOdds_57 rfl rfl ?_
      refine ew_lc0 (t := 60) dX0_findOdds_59 rfl ?_
      refine ew_lcmp_le (t1 := 61) (t := 115) (t2 := 64) dX0_findOdds_60 rfl dX0_findOdds_61 rfl rfl (fun c_60 => ?_) (fun c_60 => ?_)
      · have e0k : e0 * pN F lp c k = 0 := by have := (pk_lLE (b := 0) (by omega) (by decide)).mp c_60; omega
        have e1 := pN_0 (f1 + 1) k e0k
        rw [hk] at e1
        rw [show e0 * pN F lp c k = e0 * pN F lp c np from e0k.trans e1.symm]
        exact kk _
      · refine ew_lload (t := 66) dX0_findOdds_64 rfl rfl ?_
        refine ew_iload_n (t := 67) dX0_findOdds_66 rfl rfl rfl ?_
        refine ew_bipush (t := 69) (v := 8) dX0_findOdds_67 (by decide) rfl ?_
        refine ew_iload (t := 71) dX0_findOdds_69 rfl rfl ?_
        refine ew_iadd (t := 72) dX0_findOdds_71 rfl ?_
        have J106 : ∀ (j106_0 : Int64), j106_0 = ((if ¬ wo = (8 + (nI k)) then (fitF (F 52) (F 37) (F 38) (F 34 7) (5 * k) c).toInt64 else 1) : Int64) → EW l G yX0_findOdds cX0_findOdds 10 (some .long) 33 2 101 Q 2 101 h n 106 [some (.ref 1), some (.int wo), some (.ref tc), some (.ref en), some (.long al), none, some (.int (nI c)), some (.long (lN (e0 * pN F lp c k))), none, some (.int (nI k))] [.long j106_0, .long (lN (e0 * pN F lp c k))] := by
          intro j106_0 hj106_0
          refine ew_lmul (t := 107) dX0_findOdds_106 rfl ?_
          rw [hj106_0, fo_p (hlp k (by omega))]
          refine ew_lstore (t := 109) (L' := [some (.ref 1), some (.int wo), some (.ref tc), some (.ref en), some (.long al), none, some (.int (nI c)), some (.long (lN (e0 * pN F lp c (k + 1)))), none, some (.int (nI k))]) dX0_findOdds_107 (Nat.le_of_ble_eq_true rfl) rfl rfl ?_
          refine ew_iinc (t := 112) (x := (nI k)) (v := ((nI k) + 1)) (L' := [some (.ref 1), some (.int wo), some (.ref tc), some (.ref en), some (.long al), none, some (.int (nI c)), some (.long (lN (e0 * pN F lp c (k + 1)))), none, some (.int ((nI k) + 1))]) dX0_findOdds_109 rfl rfl (Nat.le_of_ble_eq_true rfl) rfl rfl ?_
          refine ew_goto (t := 40) dX0_findOdds_112 rfl ?_
          rw [nI_1]
          exact ih (k + 1) (by omega)
        refine ew_icmp_ne (t := 79) (t2 := 75) dX0_findOdds_72 rfl rfl (fun c_72 => ?_) (fun c_72 => ?_)
        · refine ew_aload_n (t := 80) dX0_findOdds_79 rfl rfl rfl ?_
          refine ew_get (t := 83) (j := 0) (v := .ref 2) fcX0 x1 (Nat.le_of_ble_eq_true rfl) q255 rfl dX0_findOdds_80 rfl ?_
          refine ew_getN (t := 86) (j := 6) (v := .ref 9) fcX1 xr.2.1.1 (Nat.le_of_ble_eq_true rfl) q140 rfl dX0_findOdds_83 rfl ?_
          refine ew_iload (t := 88) dX0_findOdds_86 rfl rfl ?_
          obtain ⟨mo2, e2, p, xc2, hp1, hp2, xp, hget⟩ := xr.2.2.1.get (k := k) (by omega)
          refine ew_callF (t := 93) (As := [_]) (hget l G n) (fcJ2).1 xc (lw_F q672 q675 q677 q55 q679) fw_get naI_J2_get dX0_findOdds_88 rfl (Nat.le_of_ble_eq_true rfl) (Nat.le_of_ble_eq_true rfl) (by omega) (by omega) (Nat.le_of_ble_eq_true rfl) rfl (qr ?_)
          refine ew_castO (t := 96) (fcX9).1 xp q566 dX0_findOdds_93 rfl ?_
          refine ew_aload_n (t := 97) dX0_findOdds_96 rfl rfl rfl ?_
          refine ew_get (t := 100) (j := 0) (v := .ref 2) fcX0 x1 (Nat.le_of_ble_eq_true rfl) q255 rfl dX0_findOdds_97 rfl ?_
          refine ew_iload (t := 102) dX0_findOdds_100 rfl rfl ?_
          obtain ⟨c0, N, hc0, hN, ec0, eN⟩ := ok.1 k (by omega)
          refine ew_callV (t := 105) (As := [_, _]) (ax_fits (i := 5 * k) (b := c) xr.2.1.1 xr.2.1.2.1 xr.2.1.2.2.2.2.1 ok.2.2.1 ok.2.2.2 xr.2.1.2.2.2.2.2.1 xp hc hN eN hc0 ec0) (fcX9).1 xp (lw_V q690 q691 q692 q67 q693) rfl naX9_fits dX0_findOdds_102 rfl (Nat.le_of_ble_eq_true rfl) (Nat.le_of_ble_eq_true rfl) (by omega) (by omega) (Nat.le_of_ble_eq_true rfl) rfl (qi ?_)
          refine ew_i2l (t := 106) dX0_findOdds_105 rfl ?_
          exact J106 (fitF (F 52) (F 37) (F 38) (F 34 7) (5 * k) c).toInt64 (by simp only [if_pos c_72])
        · refine ew_lc1 (t := 76) dX0_findOdds_75 rfl ?_
          refine ew_goto (t := 106) dX0_findOdds_76 rfl ?_
          exact J106 1 (by simp only [if_neg (not_not_intro c_72)])
