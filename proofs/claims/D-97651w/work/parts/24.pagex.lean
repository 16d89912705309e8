
set_option maxRecDepth 100000
def p_endF (pg : Nat → Int32) (i : Nat) (e : Int32) : Int32 := if e = -1 then (if pg (3 * i + 2) = 59 then nI (3 * i + 2) else e) else e
def p_cnt (v : Int32) : Nat := min 5 (v.toNatClampNeg / 3)
def p_end (pg : Nat → Int32) (v : Int32) : Int32 := nf (p_endF pg) (p_cnt v) (-1)
def p_ok (k : Nat) (c : Int32) : Int32 := if k % 3 = 0 then jin c 49 57 else if k % 3 = 1 then jin c 49 53 else if c = 59 then 1 else if c = 44 then (if 14 ≤ nI k then 0 else 1) else 0
def p_good (pg : Nat → Int32) (v e : Int32) (k : Nat) : Bool := !decide (v ≤ nI k) && !decide (15 ≤ nI k) && (decide (e = -1) || !decide (e < nI k)) && !decide (p_ok k (pg k) = 0)
def p_run (g : Nat → Bool) : Nat → Nat → Nat
  | 0, k => k
  | f + 1, k => if g k = true then p_run g f (k + 1) else k
theorem p_run_le (g : Nat → Bool) : ∀ f k, p_run g f k ≤ k + f := by
  intro f
  induction f with
  | zero => intro k; exact Nat.le_refl _
  | succ f ih =>
    intro k
    unfold p_run
    split
    · have := ih (k + 1); omega
    · omega
def p_fault (pg : Nat → Int32) (v e : Int32) (K : Nat) : Int32 := if e = -1 then nI K else if nI K = e + 1 then (if v ≤ nI K then nI K else if jin (pg K) 48 57 = 0 then nI K else nI K + 1) else nI K
def p_faultK (pg : Nat → Int32) (v e : Int32) : Nat := p_run (p_good pg v e) 16 0
def x_end (S : StX) : Int32 := p_end (xar S 9) (S.1 10)
def x_fault (S : StX) : Int32 := p_fault (xar S 9) (S.1 10) (x_end S) (p_faultK (xar S 9) (S.1 10) (x_end S))
def x_sc1 (i : Nat) (Z : StX) : StX := setXa (setXa Z 3 (upd (xar Z 3) (nI i).toNatClampNeg (xar Z 9 (3 * nI i).toNatClampNeg - 48))) 4 (upd (xar Z 4) (nI i).toNatClampNeg (xar Z 9 (3 * nI i + 1).toNatClampNeg - 48))
def x_sc2 (i : Nat) (Z : StX) : StX := setXa Z 5 (upd (xar Z 5) (nI i).toNatClampNeg 0)
def x_scL (S : StX) : StX := nf x_sc2 3 (nf x_sc1 ((x_end S + 1) / 3).toNatClampNeg (setXi S 0 ((x_end S + 1) / 3)))
def x_scN (S Z : StX) : StX := setXi (setXi (setXi (setXi (setXi Z 1 (xar Z 9 (x_end S + 1).toNatClampNeg - 48)) 7 0) 21 0) 2 (Z.1 2 + 1)) 10 0
def x_school (S : StX) : Int32 × StX := if x_end S = -1 then (-103, S) else if S.1 10 = x_end S + 2 then (if S.1 10 ≤ x_fault S then ((x_end S + 1) / 3, x_scN S (x_scL S)) else (-103, S)) else (-103, S)
theorem nI_3 (i : Nat) : nI (3 * i + 2) + 3 = nI (3 * (i + 1) + 2) := by
  rw [show (3 : Int32) = nI 3 from rfl, nI_add]
  exact congrArg nI (by omega)
theorem ge15 {j : Nat} (h : j < 15) : ¬ (15 : Int32) ≤ nI j := nI_ge (b := 15) h (by decide)
theorem nlt_of {v : Int32} {n k : Nat} (h : Rg v n) (hn : n < 2 ^ 31) (hk : k < 2 ^ 31) (c : ¬ v ≤ nI k) : k < v.toNatClampNeg := by
  rw [h.1] at c
  have := h.2
  rw [nI_leI (by omega) hk] at c
  omega
theorem vin18 {v : Int32} {k : Nat} (h : Rg v 18) (hk : k < 2 ^ 31) (c : ¬ v ≤ nI k) : vp_in (nI k) 18 := by
  have h1 := nlt_of h (by decide) hk c
  have := h.2
  exact vp_in_nI (by omega) (by decide)
/-- what the end of the lessons can be -/
theorem p_end_or (pg : Nat → Int32) (v : Int32) : p_end pg v = -1 ∨ ∃ m, m < 5 ∧ p_end pg v = nI (3 * m + 2) := by
  have key : ∀ n, n ≤ 5 → nf (p_endF pg) n (-1) = -1 ∨ ∃ m, m < n ∧ nf (p_endF pg) n (-1) = nI (3 * m + 2) := by
    intro n
    induction n with
    | zero => intro _; exact Or.inl rfl
    | succ n ih =>
      intro hn
      show p_endF pg n (nf (p_endF pg) n (-1)) = -1 ∨ ∃ m, m < n + 1 ∧ p_endF pg n (nf (p_endF pg) n (-1)) = nI (3 * m + 2)
      unfold p_endF
      split
      · split
        · exact Or.inr ⟨n, by omega, rfl⟩
        · rename_i h _; exact Or.inl h
      · rename_i h
        rcases ih (by omega) with e | ⟨m, hm, e⟩
        · exact absurd e h
        · exact Or.inr ⟨m, by omega, e⟩
  rcases key (p_cnt v) (by unfold p_cnt; omega) with e | ⟨m, hm, e⟩
  · exact Or.inl e
  · exact Or.inr ⟨m, by unfold p_cnt at hm; omega, e⟩
/-- a while loop: at most N + 1 turns -/
theorem V_ind (P : Nat → Nat → Prop) (N : Nat) (hs : ∀ f k, k + f = N → (0 < f → P (f - 1) (k + 1)) → P f k) : ∀ f k, k + f = N → P f k := by
  intro f
  induction f with
  | zero => intro k h; exact hs 0 k h (fun h => absurd h (by decide))
  | succ f ih => intro k h; exact hs (f + 1) k h (fun _ => ih (k + 1) (by omega))

theorem cnt_out {v : Int32} (hI : Rg v 18) (c7 : ¬ (15 : Int32) ≤ nI (3 * p_cnt v + 2)) : v ≤ nI (3 * p_cnt v + 2) := by
  have hc : p_cnt v ≤ 5 := Nat.min_le_left _ _
  have h1 : ¬ 15 ≤ 3 * p_cnt v + 2 := fun h => c7 (nI_le (a := 15) h (by omega))
  have h2 := hI.2
  have h3 : nI v.toNatClampNeg ≤ nI (3 * p_cnt v + 2) := nI_le (by unfold p_cnt at h1 ⊢; omega) (by omega)
  rw [← hI.1] at h3
  exact h3
set_option maxHeartbeats 4000000 in
theorem cX_endOfLessons {G : Gx} (B : Base G) (a : Nat → Nat) (S : StX) (hI : Rg (S.1 10) 18) : Ci G yX0_endOfLessons cX0_endOfLessons 3 .int (rmD 0) (wX G a) S [.ref (a 0)] (fun r S' => r = x_end S ∧ S' = S) := by
  refine Ci.of B [some (.ref (a 0)), none, none] (by decide) rfl (Nat.le_of_ble_eq_true rfl) (fun E C hR => ?_)
  have C : CxOk E RX0 cX0_endOfLessons 3 G (rmD 0) := C
  refine r_iconst (pc := 0) (-1) C dX0_endOfLessons_0 (by decide) ?_
  refine r_istore_n (pc := 1) C dX0_endOfLessons_1 (by decide) ?_
  refine r_iconst (pc := 2) (2) C dX0_endOfLessons_2 (by decide) ?_
  refine r_istore_n (pc := 3) C dX0_endOfLessons_3 (by decide) ?_
  refine V_for (P := fun i e => V E 3 0 0 (wX G a S) 4 [some (.ref (a 0)), some (.int e), some (.int (nI (3 * i + 2)))] []) (p_endF (xar S 9)) (-1) (p_cnt (S.1 10)) (fun i hi K4 => ?_) ?_
  · have hi5 : i < 5 := Nat.lt_of_lt_of_le hi (Nat.min_le_left _ _)
    have hin : 3 * i + 2 < (S.1 10).toNatClampNeg := by have h2 := Nat.lt_of_lt_of_le hi (Nat.min_le_right _ _); omega
    have h18 := hI.2
    refine r_iload_n (pc := 4) C dX0_endOfLessons_4 rfl ?_
    refine r_bipush (pc := 5) (15) C dX0_endOfLessons_5 (by decide) ?_
    refine r_icmp_ge (pc := 7) 46 C dX0_endOfLessons_7 (by decide) (fun c7 => ?_) (fun c7 => ?_)
    · exact absurd c7 (ge15 (by omega))
    · refine r_iload_n (pc := 10) C dX0_endOfLessons_10 rfl ?_
      refine r_aload_n (pc := 11) C dX0_endOfLessons_11 rfl ?_
      refine X_g10 (pc := 12) C dX0_endOfLessons_12 ?_
      refine r_icmp_ge (pc := 15) 46 C dX0_endOfLessons_15 (by decide) (fun c15 => ?_) (fun c15 => ?_)
      · exact absurd c15 (lp_in hI (by decide) hin)
      · refine r_iload_n (pc := 18) C dX0_endOfLessons_18 rfl ?_
        refine r_iconst (pc := 19) (-1) C dX0_endOfLessons_19 (by decide) ?_
        refine r_icmp_ne (pc := 20) 38 C dX0_endOfLessons_20 (by decide) (fun c20 => ?_) (fun c20 => ?_)
        · refine r_iload_n (pc := 38) C dX0_endOfLessons_38 rfl ?_
          refine r_istore_n (pc := 39) C dX0_endOfLessons_39 (by decide) ?_
          refine r_iinc (pc := 40) _ C dX0_endOfLessons_40 rfl (nI_3 i) (by decide) ?_
          refine r_goto (pc := 43) 4 C dX0_endOfLessons_43 (by decide) ?_
          rw [show nf (p_endF (xar S 9)) (i + 1) (-1) = p_endF (xar S 9) i (nf (p_endF (xar S 9)) i (-1)) from rfl, p_endF, if_neg c20] at K4
          exact K4
        · refine r_aload_n (pc := 23) C dX0_endOfLessons_23 rfl ?_
          refine X_g9 (pc := 24) C dX0_endOfLessons_24 ?_
          refine r_iload_n (pc := 27) C dX0_endOfLessons_27 rfl ?_
          refine X_l9 (pc := 28) C dX0_endOfLessons_28 (vp_in_nI (by omega) (by decide)) ?_
          rw [nI_clamp (by omega)]
          refine r_bipush (pc := 29) (59) C dX0_endOfLessons_29 (by decide) ?_
          refine r_icmp_ne (pc := 31) 38 C dX0_endOfLessons_31 (by decide) (fun c31 => ?_) (fun c31 => ?_)
          · refine r_iload_n (pc := 38) C dX0_endOfLessons_38 rfl ?_
            refine r_istore_n (pc := 39) C dX0_endOfLessons_39 (by decide) ?_
            refine r_iinc (pc := 40) _ C dX0_endOfLessons_40 rfl (nI_3 i) (by decide) ?_
            refine r_goto (pc := 43) 4 C dX0_endOfLessons_43 (by decide) ?_
            rw [show nf (p_endF (xar S 9)) (i + 1) (-1) = p_endF (xar S 9) i (nf (p_endF (xar S 9)) i (-1)) from rfl, p_endF, if_pos c20, if_neg c31] at K4
            exact K4
          · refine r_iload_n (pc := 34) C dX0_endOfLessons_34 rfl ?_
            refine r_goto (pc := 35) 39 C dX0_endOfLessons_35 (by decide) ?_
            refine r_istore_n (pc := 39) C dX0_endOfLessons_39 (by decide) ?_
            refine r_iinc (pc := 40) _ C dX0_endOfLessons_40 rfl (nI_3 i) (by decide) ?_
            refine r_goto (pc := 43) 4 C dX0_endOfLessons_43 (by decide) ?_
            rw [show nf (p_endF (xar S 9)) (i + 1) (-1) = p_endF (xar S 9) i (nf (p_endF (xar S 9)) i (-1)) from rfl, p_endF, if_pos c20, if_pos c31] at K4
            exact K4
  · refine r_iload_n (pc := 4) C dX0_endOfLessons_4 rfl ?_
    refine r_bipush (pc := 5) (15) C dX0_endOfLessons_5 (by decide) ?_
    refine r_icmp_ge (pc := 7) 46 C dX0_endOfLessons_7 (by decide) (fun c7 => ?_) (fun c7 => ?_)
    · refine r_iload_n (pc := 46) C dX0_endOfLessons_46 rfl ?_
      exact r_iret (pc := 47) C hR dX0_endOfLessons_47 (by decide) (by decide) ⟨rfl, rfl⟩
    · refine r_iload_n (pc := 10) C dX0_endOfLessons_10 rfl ?_
      refine r_aload_n (pc := 11) C dX0_endOfLessons_11 rfl ?_
      refine X_g10 (pc := 12) C dX0_endOfLessons_12 ?_
      refine r_icmp_ge (pc := 15) 46 C dX0_endOfLessons_15 (by decide) (fun c15 => ?_) (fun c15 => ?_)
      · refine r_iload_n (pc := 46) C dX0_endOfLessons_46 rfl ?_
        exact r_iret (pc := 47) C hR dX0_endOfLessons_47 (by decide) (by decide) ⟨rfl, rfl⟩
      · exact absurd (cnt_out hI c7) c15

set_option maxHeartbeats 4000000 in
theorem cX_isLessonLetter {G : Gx} (B : Base G) (k : Nat) (c : Int32) (hk : k < 100) : Ci G yX0_isLessonLetter cX0_isLessonLetter 2 .boolean (rmD 1) (fun _ : Unit => []) () [.int (nI k), .int c] (fun r _ => r = p_ok k c) := by
  refine Ci.of B [some (.int (nI k)), some (.int c)] (by decide) rfl (Nat.le_of_ble_eq_true rfl) (fun E C hR => ?_)
  have C : CxOk E RX0 cX0_isLessonLetter 2 G (rmD 1) := C
  refine r_iload_n (pc := 0) C dX0_isLessonLetter_0 rfl ?_
  refine r_iconst (pc := 1) (3) C dX0_isLessonLetter_1 (by decide) ?_
  refine r_irem (pc := 2) C dX0_isLessonLetter_2 (by decide) ?_
  rw [show nI k - nI k / 3 * 3 = nI (k % 3) from pk_rem (d := 3) (by omega) (by decide) (by decide)]
  have h3 : k % 3 = 0 ∨ k % 3 = 1 ∨ k % 3 = 2 := by omega
  rcases h3 with h3 | h3 | h3
  · refine r_lookup (pc := 3) (off := 25) 28 C dX0_isLessonLetter_3 (by decide) (by rw [h3]; rfl) (by decide) ?_
    refine r_iload_n (pc := 28) C dX0_isLessonLetter_28 rfl ?_
    refine r_i2l (pc := 29) C dX0_isLessonLetter_29 ?_
    refine r_ldc2 (pc := 30) C dX0_isLessonLetter_30 q229 ?_
    refine r_ldc2 (pc := 33) C dX0_isLessonLetter_33 q230 ?_
    refine S_cQi (pc := 36) C (cX_isIn32 B _ 49 57) q211 mX0_isIn rfl dX0_isLessonLetter_36 (by decide) (Nat.le_of_ble_eq_true rfl) ?_
    exact r_zret (pc := 39) (S := ()) C hR dX0_isLessonLetter_39 (z_of (jin_01 _ _ _)) (by decide) (by decide) (by rw [p_ok, if_pos h3])
  · refine r_lookup (pc := 3) (off := 37) 40 C dX0_isLessonLetter_3 (by decide) (by rw [h3]; rfl) (by decide) ?_
    refine r_iload_n (pc := 40) C dX0_isLessonLetter_40 rfl ?_
    refine r_i2l (pc := 41) C dX0_isLessonLetter_41 ?_
    refine r_ldc2 (pc := 42) C dX0_isLessonLetter_42 q229 ?_
    refine r_ldc2 (pc := 45) C dX0_isLessonLetter_45 q231 ?_
    refine S_cQi (pc := 48) C (cX_isIn32 B _ 49 53) q211 mX0_isIn rfl dX0_isLessonLetter_48 (by decide) (Nat.le_of_ble_eq_true rfl) ?_
    exact r_zret (pc := 51) (S := ()) C hR dX0_isLessonLetter_51 (z_of (jin_01 _ _ _)) (by decide) (by decide) (by rw [p_ok, if_neg (by omega), if_pos h3])
  · refine r_lookup (pc := 3) (off := 49) 52 C dX0_isLessonLetter_3 (by decide) (by rw [h3]; rfl) (by decide) ?_
    refine r_iload_n (pc := 52) C dX0_isLessonLetter_52 rfl ?_
    refine r_bipush (pc := 53) (59) C dX0_isLessonLetter_53 (by decide) ?_
    refine r_icmp_eq (pc := 55) 70 C dX0_isLessonLetter_55 (by decide) (fun c55 => ?_) (fun c55 => ?_)
    · refine r_iconst (pc := 70) (1) C dX0_isLessonLetter_70 (by decide) ?_
      refine r_goto (pc := 71) 75 C dX0_isLessonLetter_71 (by decide) ?_
      exact r_zret (pc := 75) (S := ()) C hR dX0_isLessonLetter_75 (by decide) (by decide) (by decide) (by rw [p_ok, if_neg (by omega), if_neg (by omega), if_pos c55])
    · refine r_iload_n (pc := 58) C dX0_isLessonLetter_58 rfl ?_
      refine r_bipush (pc := 59) (44) C dX0_isLessonLetter_59 (by decide) ?_
      refine r_icmp_ne (pc := 61) 74 C dX0_isLessonLetter_61 (by decide) (fun c61 => ?_) (fun c61 => ?_)
      · refine r_iconst (pc := 74) (0) C dX0_isLessonLetter_74 (by decide) ?_
        exact r_zret (pc := 75) (S := ()) C hR dX0_isLessonLetter_75 (by decide) (by decide) (by decide) (by rw [p_ok, if_neg (by omega), if_neg (by omega), if_neg c55, if_neg c61])
      · refine r_iload_n (pc := 64) C dX0_isLessonLetter_64 rfl ?_
        refine r_bipush (pc := 65) (14) C dX0_isLessonLetter_65 (by decide) ?_
        refine r_icmp_ge (pc := 67) 74 C dX0_isLessonLetter_67 (by decide) (fun c67 => ?_) (fun c67 => ?_)
        · refine r_iconst (pc := 74) (0) C dX0_isLessonLetter_74 (by decide) ?_
          exact r_zret (pc := 75) (S := ()) C hR dX0_isLessonLetter_75 (by decide) (by decide) (by decide) (by rw [p_ok, if_neg (by omega), if_neg (by omega), if_neg c55, if_pos c61, if_pos c67])
        · refine r_iconst (pc := 70) (1) C dX0_isLessonLetter_70 (by decide) ?_
          refine r_goto (pc := 71) 75 C dX0_isLessonLetter_71 (by decide) ?_
          exact r_zret (pc := 75) (S := ()) C hR dX0_isLessonLetter_75 (by decide) (by decide) (by decide) (by rw [p_ok, if_neg (by omega), if_neg (by omega), if_neg c55, if_pos c61, if_neg c67])

theorem run_stop {g : Nat → Bool} {f k : Nat} (h : g k = false) : p_run g (f + 1) k = k := by
  show (if g k = true then _ else _) = _
  rw [h]
  rfl
theorem run_go {g : Nat → Bool} {f k : Nat} (h : g k = true) (hf : 0 < f) : p_run g (f + 1) k = p_run g (f - 1 + 1) (k + 1) := by
  rw [Nat.sub_add_cancel hf]
  exact if_pos h
theorem good_t {pg : Nat → Int32} {v e : Int32} {k : Nat} (h1 : ¬ v ≤ nI k) (h2 : ¬ (15 : Int32) ≤ nI k) (h3 : e = -1 ∨ ¬ e < nI k) (h4 : ¬ p_ok k (pg k) = 0) : p_good pg v e k = true := by
  unfold p_good
  rcases h3 with h3 | h3 <;> simp [h1, h2, h3, h4]
theorem lt15 {k f : Nat} (h : ¬ (15 : Int32) ≤ nI k) (hk : k + f = 15) : 0 < f := by
  rcases Nat.eq_zero_or_pos f with e | e
  · exact absurd (nI_le (a := 15) (b := k) (by omega) (by omega)) h
  · exact e
set_option maxHeartbeats 4000000 in
theorem cX_fault {G : Gx} (B : Base G) (a : Nat → Nat) (S : StX) (hI : Rg (S.1 10) 18) : Ci G yX0_fault cX0_fault 3 .int (rmD 2) (wX G a) S [.ref (a 0)] (fun r S' => r = x_fault S ∧ S' = S) := by
  refine Ci.of B [some (.ref (a 0)), none, none] (by decide) rfl (Nat.le_of_ble_eq_true rfl) (fun E C hR => ?_)
  have C : CxOk E RX0 cX0_fault 3 G (rmD 2) := C
  have J : ∀ k : Nat, p_faultK (xar S 9) (S.1 10) (x_end S) = k → k ≤ 16 → V E 3 0 0 (wX G a S) 50 [some (.ref (a 0)), some (.int (x_end S)), some (.int (nI k))] [] := by
      intro k hK hk16
      refine r_iload_n (pc := 50) C dX0_fault_50 rfl ?_
      refine r_iconst (pc := 51) (-1) C dX0_fault_51 (by decide) ?_
      refine r_icmp_eq (pc := 52) 95 C dX0_fault_52 (by decide) (fun c52 => ?_) (fun c52 => ?_)
      · refine r_iload_n (pc := 95) C dX0_fault_95 rfl ?_
        exact r_iret (pc := 96) C hR dX0_fault_96 (by decide) (by decide) ⟨by rw [x_fault, hK, p_fault, if_pos c52], rfl⟩
      · refine r_iload_n (pc := 55) C dX0_fault_55 rfl ?_
        refine r_iload_n (pc := 56) C dX0_fault_56 rfl ?_
        refine r_iconst (pc := 57) (1) C dX0_fault_57 (by decide) ?_
        refine r_iadd (pc := 58) C dX0_fault_58 ?_
        refine r_icmp_ne (pc := 59) 95 C dX0_fault_59 (by decide) (fun c59 => ?_) (fun c59 => ?_)
        · refine r_iload_n (pc := 95) C dX0_fault_95 rfl ?_
          exact r_iret (pc := 96) C hR dX0_fault_96 (by decide) (by decide) ⟨by rw [x_fault, hK, p_fault, if_neg c52, if_neg c59], rfl⟩
        · refine r_iload_n (pc := 62) C dX0_fault_62 rfl ?_
          refine r_aload_n (pc := 63) C dX0_fault_63 rfl ?_
          refine X_g10 (pc := 64) C dX0_fault_64 ?_
          refine r_icmp_ge (pc := 67) 95 C dX0_fault_67 (by decide) (fun c67 => ?_) (fun c67 => ?_)
          · refine r_iload_n (pc := 95) C dX0_fault_95 rfl ?_
            exact r_iret (pc := 96) C hR dX0_fault_96 (by decide) (by decide) ⟨by rw [x_fault, hK, p_fault, if_neg c52, if_pos c59, if_pos c67], rfl⟩
          · refine r_aload_n (pc := 70) C dX0_fault_70 rfl ?_
            refine X_g9 (pc := 71) C dX0_fault_71 ?_
            refine r_iload_n (pc := 74) C dX0_fault_74 rfl ?_
            refine X_l9 (pc := 75) C dX0_fault_75 (vin18 hI (by omega) c67) ?_
            rw [nI_clamp (by omega)]
            refine r_i2l (pc := 76) C dX0_fault_76 ?_
            refine r_ldc2 (pc := 77) C dX0_fault_77 q232 ?_
            refine r_ldc2 (pc := 80) C dX0_fault_80 q230 ?_
            refine S_cQi (pc := 83) C (cX_isIn32 B _ 48 57) q211 mX0_isIn rfl dX0_fault_83 (by decide) (Nat.le_of_ble_eq_true rfl) ?_
            refine r_if_eq (pc := 86) 95 C dX0_fault_86 (by decide) (fun c86 => ?_) (fun c86 => ?_)
            · refine r_iload_n (pc := 95) C dX0_fault_95 rfl ?_
              exact r_iret (pc := 96) C hR dX0_fault_96 (by decide) (by decide) ⟨by rw [x_fault, hK, p_fault, if_neg c52, if_pos c59, if_neg c67, if_pos c86], rfl⟩
            · refine r_iload_n (pc := 89) C dX0_fault_89 rfl ?_
              refine r_iconst (pc := 90) (1) C dX0_fault_90 (by decide) ?_
              refine r_iadd (pc := 91) C dX0_fault_91 ?_
              refine r_goto (pc := 92) 96 C dX0_fault_92 (by decide) ?_
              exact r_iret (pc := 96) C hR dX0_fault_96 (by decide) (by decide) ⟨by rw [x_fault, hK, p_fault, if_neg c52, if_pos c59, if_neg c67, if_neg c86], rfl⟩
  refine r_aload_n (pc := 0) C dX0_fault_0 rfl ?_
  refine X_cQi (pc := 1) C (cX_endOfLessons B a _ (by assumption)) q222 mX0_endOfLessons rfl dX0_fault_1 (by decide) (Nat.le_of_ble_eq_true rfl) ?_
  refine r_istore_n (pc := 4) C dX0_fault_4 (by decide) ?_
  refine r_iconst (pc := 5) (0) C dX0_fault_5 (by decide) ?_
  refine r_istore_n (pc := 6) C dX0_fault_6 (by decide) ?_
  refine V_ind (P := fun f k => p_faultK (xar S 9) (S.1 10) (x_end S) = p_run (p_good (xar S 9) (S.1 10) (x_end S)) (f + 1) k → V E 3 0 0 (wX G a S) 7 [some (.ref (a 0)), some (.int (x_end S)), some (.int (nI k))] []) 15 (fun f k hk K7 hK => ?_) 15 0 rfl rfl
  · refine r_iload_n (pc := 7) C dX0_fault_7 rfl ?_
    refine r_aload_n (pc := 8) C dX0_fault_8 rfl ?_
    refine X_g10 (pc := 9) C dX0_fault_9 ?_
    refine r_icmp_ge (pc := 12) 50 C dX0_fault_12 (by decide) (fun c12 => ?_) (fun c12 => ?_)
    · exact J k (hK.trans (run_stop (by simp [p_good, c12]))) (by omega)
    · refine r_iload_n (pc := 15) C dX0_fault_15 rfl ?_
      refine r_bipush (pc := 16) (15) C dX0_fault_16 (by decide) ?_
      refine r_icmp_ge (pc := 18) 50 C dX0_fault_18 (by decide) (fun c18 => ?_) (fun c18 => ?_)
      · exact J k (hK.trans (run_stop (by simp [p_good, c12, c18]))) (by omega)
      · refine r_iload_n (pc := 21) C dX0_fault_21 rfl ?_
        refine r_iconst (pc := 22) (-1) C dX0_fault_22 (by decide) ?_
        refine r_icmp_eq (pc := 23) 31 C dX0_fault_23 (by decide) (fun c23 => ?_) (fun c23 => ?_)
        · refine r_iload_n (pc := 31) C dX0_fault_31 rfl ?_
          refine r_aload_n (pc := 32) C dX0_fault_32 rfl ?_
          refine X_g9 (pc := 33) C dX0_fault_33 ?_
          refine r_iload_n (pc := 36) C dX0_fault_36 rfl ?_
          refine X_l9 (pc := 37) C dX0_fault_37 (vin18 hI (by omega) c12) ?_
          rw [nI_clamp (by omega)]
          refine S_cQi (pc := 38) C (cX_isLessonLetter B _ _ (by omega)) q226 mX0_isLessonLetter rfl dX0_fault_38 (by decide) (Nat.le_of_ble_eq_true rfl) ?_
          refine r_if_eq (pc := 41) 50 C dX0_fault_41 (by decide) (fun c41 => ?_) (fun c41 => ?_)
          · exact J k (hK.trans (run_stop (by simp [p_good, c12, c18, c23, c41]))) (by omega)
          · refine r_iinc (pc := 44) _ C dX0_fault_44 rfl rfl (by decide) ?_
            rw [show nI k + Int32.ofInt 1 = nI (k + 1) from nI_1 k]
            refine r_goto (pc := 47) 7 C dX0_fault_47 (by decide) ?_
            exact K7 (lt15 c18 hk) (hK.trans (run_go (good_t (by assumption) (by assumption) (by first | exact Or.inl c23 | exact Or.inr c28) (by assumption)) (lt15 c18 hk)))
        · refine r_iload_n (pc := 26) C dX0_fault_26 rfl ?_
          refine r_iload_n (pc := 27) C dX0_fault_27 rfl ?_
          refine r_icmp_gt (pc := 28) 50 C dX0_fault_28 (by decide) (fun c28 => ?_) (fun c28 => ?_)
          · exact J k (hK.trans (run_stop (by simp [p_good, c12, c18, c23, c28]))) (by omega)
          · refine r_iload_n (pc := 31) C dX0_fault_31 rfl ?_
            refine r_aload_n (pc := 32) C dX0_fault_32 rfl ?_
            refine X_g9 (pc := 33) C dX0_fault_33 ?_
            refine r_iload_n (pc := 36) C dX0_fault_36 rfl ?_
            refine X_l9 (pc := 37) C dX0_fault_37 (vin18 hI (by omega) c12) ?_
            rw [nI_clamp (by omega)]
            refine S_cQi (pc := 38) C (cX_isLessonLetter B _ _ (by omega)) q226 mX0_isLessonLetter rfl dX0_fault_38 (by decide) (Nat.le_of_ble_eq_true rfl) ?_
            refine r_if_eq (pc := 41) 50 C dX0_fault_41 (by decide) (fun c41 => ?_) (fun c41 => ?_)
            · exact J k (hK.trans (run_stop (by simp [p_good, c12, c18, c23, c28, c41]))) (by omega)
            · refine r_iinc (pc := 44) _ C dX0_fault_44 rfl rfl (by decide) ?_
              rw [show nI k + Int32.ofInt 1 = nI (k + 1) from nI_1 k]
              refine r_goto (pc := 47) 7 C dX0_fault_47 (by decide) ?_
              exact K7 (lt15 c18 hk) (hK.trans (run_go (good_t (by assumption) (by assumption) (by first | exact Or.inl c23 | exact Or.inr c28) (by assumption)) (lt15 c18 hk)))

theorem end_l {e : Int32} (h : e = -1 ∨ ∃ m, m < 5 ∧ e = nI (3 * m + 2)) (c : ¬ e = -1) : Rg ((e + 1) / 3) 5 := by
  rcases h with h | ⟨m, hm, rfl⟩
  · exact absurd h c
  · rw [nI_1, show (3 : Int32) = nI 3 from rfl, pk_div (by omega) (by decide) (by decide), show (3 * m + 2 + 1) / 3 = m + 1 by omega]
    exact Rg.of (by omega) (by decide)
theorem end_18 {e : Int32} (h : e = -1 ∨ ∃ m, m < 5 ∧ e = nI (3 * m + 2)) (c : ¬ e = -1) : vp_in (e + 1) 18 := by
  rcases h with h | ⟨m, hm, rfl⟩
  · exact absurd h c
  · rw [nI_1]
    exact vp_in_nI (by omega) (by decide)
theorem sc1_0 (Z : StX) (i : Nat) : (nf x_sc1 i Z).1 0 = Z.1 0 := by
  induction i with
  | zero => rfl
  | succ i ih => exact ih
theorem vin18a {i : Nat} (h : i < 5) : vp_in (3 * nI i) 18 := by
  rw [show (3 : Int32) = nI 3 from rfl, pk_mul]
  exact vp_in_nI (by omega) (by decide)
theorem vin18b {i : Nat} (h : i < 5) : vp_in (3 * nI i + 1) 18 := by
  rw [show (3 : Int32) = nI 3 from rfl, pk_mul, nI_1]
  exact vp_in_nI (by omega) (by decide)
set_option maxHeartbeats 4000000 in
theorem cX_school {G : Gx} (B : Base G) (a : Nat → Nat) (S : StX) (hI : Rg (S.1 10) 18) : Ci G yX0_school cX0_school 3 .int (rmD 3) (wX G a) S [.ref (a 0)] (fun r S' => r = (x_school S).1 ∧ S' = (x_school S).2) := by
  refine Ci.of B [some (.ref (a 0)), none, none] (by decide) rfl (Nat.le_of_ble_eq_true rfl) (fun E C hR => ?_)
  have C : CxOk E RX0 cX0_school 3 G (rmD 3) := C
  refine r_aload_n (pc := 0) C dX0_school_0 rfl ?_
  refine X_cQi (pc := 1) C (cX_endOfLessons B a _ (by assumption)) q222 mX0_endOfLessons rfl dX0_school_1 (by decide) (Nat.le_of_ble_eq_true rfl) ?_
  refine r_istore_n (pc := 4) C dX0_school_4 (by decide) ?_
  refine r_iload_n (pc := 5) C dX0_school_5 rfl ?_
  refine r_iconst (pc := 6) (-1) C dX0_school_6 (by decide) ?_
  refine r_icmp_eq (pc := 7) 31 C dX0_school_7 (by decide) (fun c7 => ?_) (fun c7 => ?_)
  · refine r_bipush (pc := 31) (-103) C dX0_school_31 (by decide) ?_
    exact r_iret (pc := 33) C hR dX0_school_33 (by decide) (by decide) ⟨by rw [x_school, if_pos c7], by rw [x_school, if_pos c7]⟩
  · have hl := end_l (p_end_or _ _) c7
    have h18 := end_18 (p_end_or _ _) c7
    refine r_aload_n (pc := 10) C dX0_school_10 rfl ?_
    refine X_g10 (pc := 11) C dX0_school_11 ?_
    refine r_iload_n (pc := 14) C dX0_school_14 rfl ?_
    refine r_iconst (pc := 15) (2) C dX0_school_15 (by decide) ?_
    refine r_iadd (pc := 16) C dX0_school_16 ?_
    refine r_icmp_ne (pc := 17) 31 C dX0_school_17 (by decide) (fun c17 => ?_) (fun c17 => ?_)
    · refine r_bipush (pc := 31) (-103) C dX0_school_31 (by decide) ?_
      exact r_iret (pc := 33) C hR dX0_school_33 (by decide) (by decide) ⟨by rw [x_school, if_neg c7, if_neg c17], by rw [x_school, if_neg c7, if_neg c17]⟩
    · refine r_aload_n (pc := 20) C dX0_school_20 rfl ?_
      refine X_cQi (pc := 21) C (cX_fault B a _ (by assumption)) q237 mX0_fault rfl dX0_school_21 (by decide) (Nat.le_of_ble_eq_true rfl) ?_
      refine r_aload_n (pc := 24) C dX0_school_24 rfl ?_
      refine X_g10 (pc := 25) C dX0_school_25 ?_
      refine r_icmp_ge (pc := 28) 34 C dX0_school_28 (by decide) (fun c28 => ?_) (fun c28 => ?_)
      · refine r_aload_n (pc := 34) C dX0_school_34 rfl ?_
        refine r_iload_n (pc := 35) C dX0_school_35 rfl ?_
        refine r_iconst (pc := 36) (1) C dX0_school_36 (by decide) ?_
        refine r_iadd (pc := 37) C dX0_school_37 ?_
        refine r_iconst (pc := 38) (3) C dX0_school_38 (by decide) ?_
        refine r_idiv (pc := 39) C dX0_school_39 (by decide) ?_
        refine X_p0 (pc := 40) C dX0_school_40 ?_
        refine r_iconst (pc := 43) (0) C dX0_school_43 (by decide) ?_
        refine r_istore_n (pc := 44) C dX0_school_44 (by decide) ?_
        refine V_for (P := fun i Z => V E 3 0 0 (wX G a Z) 45 [some (.ref (a 0)), some (.int (x_end S)), some (.int (nI i))] []) x_sc1 (setXi S 0 ((x_end S + 1) / 3)) ((x_end S + 1) / 3).toNatClampNeg (fun i hi K45 => ?_) ?_
        · have hi5 : i < 5 := Nat.lt_of_lt_of_le hi hl.2
          have e0 := sc1_0 (setXi S 0 ((x_end S + 1) / 3)) i
          refine r_iload_n (pc := 45) C dX0_school_45 rfl ?_
          refine r_aload_n (pc := 46) C dX0_school_46 rfl ?_
          refine X_g0 (pc := 47) C dX0_school_47 ?_
          refine r_icmp_ge (pc := 50) 95 C dX0_school_50 (by decide) (fun c50 => ?_) (fun c50 => ?_)
          · rw [e0] at c50
            exact absurd c50 (lp_in hl (by decide) hi)
          · refine r_aload_n (pc := 53) C dX0_school_53 rfl ?_
            refine X_g3 (pc := 54) C dX0_school_54 ?_
            refine r_iload_n (pc := 57) C dX0_school_57 rfl ?_
            refine r_aload_n (pc := 58) C dX0_school_58 rfl ?_
            refine X_g9 (pc := 59) C dX0_school_59 ?_
            refine r_iconst (pc := 62) (3) C dX0_school_62 (by decide) ?_
            refine r_iload_n (pc := 63) C dX0_school_63 rfl ?_
            refine r_imul (pc := 64) C dX0_school_64 ?_
            refine X_l9 (pc := 65) C dX0_school_65 (vin18a hi5) ?_
            refine r_bipush (pc := 66) (48) C dX0_school_66 (by decide) ?_
            refine r_isub (pc := 68) C dX0_school_68 ?_
            refine X_s3 (pc := 69) C dX0_school_69 (vp_in_nI hi5 (by decide)) ?_
            refine r_aload_n (pc := 70) C dX0_school_70 rfl ?_
            refine X_g4 (pc := 71) C dX0_school_71 ?_
            refine r_iload_n (pc := 74) C dX0_school_74 rfl ?_
            refine r_aload_n (pc := 75) C dX0_school_75 rfl ?_
            refine X_g9 (pc := 76) C dX0_school_76 ?_
            refine r_iconst (pc := 79) (3) C dX0_school_79 (by decide) ?_
            refine r_iload_n (pc := 80) C dX0_school_80 rfl ?_
            refine r_imul (pc := 81) C dX0_school_81 ?_
            refine r_iconst (pc := 82) (1) C dX0_school_82 (by decide) ?_
            refine r_iadd (pc := 83) C dX0_school_83 ?_
            refine X_l9 (pc := 84) C dX0_school_84 (vin18b hi5) ?_
            refine r_bipush (pc := 85) (48) C dX0_school_85 (by decide) ?_
            refine r_isub (pc := 87) C dX0_school_87 ?_
            refine X_s4 (pc := 88) C dX0_school_88 (vp_in_nI hi5 (by decide)) ?_
            refine r_iinc (pc := 89) _ C dX0_school_89 rfl (nI_1 i) (by decide) ?_
            refine r_goto (pc := 92) 45 C dX0_school_92 (by decide) ?_
            exact K45
        · have e0 := sc1_0 (setXi S 0 ((x_end S + 1) / 3)) ((x_end S + 1) / 3).toNatClampNeg
          refine r_iload_n (pc := 45) C dX0_school_45 rfl ?_
          refine r_aload_n (pc := 46) C dX0_school_46 rfl ?_
          refine X_g0 (pc := 47) C dX0_school_47 ?_
          refine r_icmp_ge (pc := 50) 95 C dX0_school_50 (by decide) (fun c50 => ?_) (fun c50 => ?_)
          · refine r_iconst (pc := 95) (0) C dX0_school_95 (by decide) ?_
            refine r_istore_n (pc := 96) C dX0_school_96 (by decide) ?_
            refine V_for (P := fun i Z => V E 3 0 0 (wX G a Z) 97 [some (.ref (a 0)), some (.int (x_end S)), some (.int (nI i))] []) x_sc2 _ 3 (fun i hi K97 => ?_) ?_
            · refine r_iload_n (pc := 97) C dX0_school_97 rfl ?_
              refine r_iconst (pc := 98) (3) C dX0_school_98 (by decide) ?_
              refine r_icmp_ge (pc := 99) 115 C dX0_school_99 (by decide) (fun c99 => ?_) (fun c99 => ?_)
              · exact absurd c99 (lp_in R33 (by decide) hi)
              · refine r_aload_n (pc := 102) C dX0_school_102 rfl ?_
                refine X_g5 (pc := 103) C dX0_school_103 ?_
                refine r_iload_n (pc := 106) C dX0_school_106 rfl ?_
                refine r_iconst (pc := 107) (0) C dX0_school_107 (by decide) ?_
                refine X_s5 (pc := 108) C dX0_school_108 (vp_in_nI hi (by decide)) ?_
                refine r_iinc (pc := 109) _ C dX0_school_109 rfl (nI_1 i) (by decide) ?_
                refine r_goto (pc := 112) 97 C dX0_school_112 (by decide) ?_
                exact K97
            · refine r_iload_n (pc := 97) C dX0_school_97 rfl ?_
              refine r_iconst (pc := 98) (3) C dX0_school_98 (by decide) ?_
              refine r_icmp_ge (pc := 99) 115 C dX0_school_99 (by decide) (fun c99 => ?_) (fun c99 => ?_)
              · refine r_aload_n (pc := 115) C dX0_school_115 rfl ?_
                refine r_aload_n (pc := 116) C dX0_school_116 rfl ?_
                refine X_g9 (pc := 117) C dX0_school_117 ?_
                refine r_iload_n (pc := 120) C dX0_school_120 rfl ?_
                refine r_iconst (pc := 121) (1) C dX0_school_121 (by decide) ?_
                refine r_iadd (pc := 122) C dX0_school_122 ?_
                refine X_l9 (pc := 123) C dX0_school_123 h18 ?_
                refine r_bipush (pc := 124) (48) C dX0_school_124 (by decide) ?_
                refine r_isub (pc := 126) C dX0_school_126 ?_
                refine X_p1 (pc := 127) C dX0_school_127 ?_
                refine r_aload_n (pc := 130) C dX0_school_130 rfl ?_
                refine r_iconst (pc := 131) (0) C dX0_school_131 (by decide) ?_
                refine X_p7 (pc := 132) C dX0_school_132 ?_
                refine r_aload_n (pc := 135) C dX0_school_135 rfl ?_
                refine r_iconst (pc := 136) (0) C dX0_school_136 (by decide) ?_
                refine X_p21 (pc := 137) C dX0_school_137 ?_
                refine r_aload_n (pc := 140) C dX0_school_140 rfl ?_
                refine r_dup (pc := 141) C dX0_school_141 rfl ?_
                refine X_g2 (pc := 142) C dX0_school_142 ?_
                refine r_iconst (pc := 145) (1) C dX0_school_145 (by decide) ?_
                refine r_iadd (pc := 146) C dX0_school_146 ?_
                refine X_p2 (pc := 147) C dX0_school_147 ?_
                refine r_aload_n (pc := 150) C dX0_school_150 rfl ?_
                refine r_iconst (pc := 151) (0) C dX0_school_151 (by decide) ?_
                refine X_p10 (pc := 152) C dX0_school_152 ?_
                refine r_aload_n (pc := 155) C dX0_school_155 rfl ?_
                refine X_g0 (pc := 156) C dX0_school_156 ?_
                exact r_iret (pc := 159) C hR dX0_school_159 (by decide) (by decide) ⟨(by rw [x_school, if_neg c7, if_pos c17, if_pos c28]; exact e0), (by rw [x_school, if_neg c7, if_pos c17, if_pos c28]; rfl)⟩
              · exact absurd (lp_out R33 (by decide)) c99
          · rw [e0] at c50
            exact absurd (lp_out hl (by decide)) c50
      · refine r_bipush (pc := 31) (-103) C dX0_school_31 (by decide) ?_
        exact r_iret (pc := 33) C hR dX0_school_33 (by decide) (by decide) ⟨by rw [x_school, if_neg c7, if_pos c17, if_neg c28], by rw [x_school, if_neg c7, if_pos c17, if_neg c28]⟩

