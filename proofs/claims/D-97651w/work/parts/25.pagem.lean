
set_option maxRecDepth 100000
def p_fig (pg : Nat → Int32) (v : Int32) (k : Nat) (lo hi : Int32) : Int32 := if v ≤ nI k then 0 else if jin (pg k - 48) lo hi = 0 then 0 else 1
def p_sign (pg : Nat → Int32) (v : Int32) (k : Nat) (c : Int32) : Int32 := if v ≤ nI k then 0 else if pg k = c then 1 else 0
def p_read (pg : Nat → Int32) (v : Int32) : Nat → Nat → Nat → Nat × Nat × Int32
  | 0, k, m => (k, m, 0)
  | f + 1, k, m => if p_fig pg v k 1 9 = 0 then (k, m, 0) else if p_fig pg v (k + 1) 1 5 = 0 then (k + 1, m, 0) else if p_sign pg v (k + 2) 59 = 0 then (if nI (m + 1) = 5 then (k + 2, m + 1, 0) else if p_sign pg v (k + 2) 44 = 0 then (k + 2, m + 1, 0) else p_read pg v f (k + 3) (m + 1)) else (if p_fig pg v (k + 3) 0 9 = 0 then (k + 3, m + 1, 0) else (k + 4, m + 1, if nI (k + 3) + 1 = v then 1 else 0))
def m_rd (T : StM) : Nat × Nat × Int32 := p_read (mar T 18) (T.1 17) 5 0 0
def m_rs (T : StM) (w m : Int32) : StM := setMi (setMi T 19 w) 20 m
theorem up_up {α : Type} (f : Nat → α) (k : Nat) (v w : α) : va_up (va_up f k v) k w = va_up f k w := by
  funext j
  unfold va_up
  split <;> rfl
theorem up_comm {α : Type} (f : Nat → α) {k j : Nat} (h : ¬ k = j) (v w : α) : va_up (va_up f k v) j w = va_up (va_up f j w) k v := by
  funext i
  unfold va_up
  by_cases h1 : i = k
  · subst h1; simp [h]
  · simp [h1]
theorem m_rs_inc (T : StM) (m : Nat) : setMi (m_rs T 0 (nI m)) 20 ((m_rs T 0 (nI m)).1 20 + 1) = m_rs T 0 (nI (m + 1)) := by
  unfold m_rs setMi
  rw [up_up]
  show (va_up (va_up T.1 19 0) 20 (nI m + 1), _) = _
  rw [nI_1]
theorem m_rs_w (T : StM) (w w' m : Int32) : setMi (m_rs T w m) 19 w' = m_rs T w' m := by
  unfold m_rs setMi
  rw [up_comm _ (by decide : ¬ 20 = 19), up_up]
def m_rl (T : StM) (k : Nat) : Int32 × StM := if p_fig (mar T 18) (T.1 17) k 0 9 = 0 then (nI k, T) else (nI k + 1, setMi T 19 (if nI k + 1 = T.1 17 then 1 else 0))
def m_sc1 (i : Nat) (Z : StM) : StM := setMa (setMa Z 3 (upd (mar Z 3) (nI i).toNatClampNeg (mar Z 18 (3 * nI i).toNatClampNeg - 48))) 4 (upd (mar Z 4) (nI i).toNatClampNeg (mar Z 18 (3 * nI i + 1).toNatClampNeg - 48))
def m_sc2 (i : Nat) (Z : StM) : StM := setMa Z 5 (upd (mar Z 5) (nI i).toNatClampNeg 0)
def m_rdS (T : StM) : StM := m_rs T (m_rd T).2.2 (nI (m_rd T).2.1)
def m_sc0 (T : StM) : StM := setMi (setMi (m_rdS T) 1 (nI (m_rd T).2.1)) 2 (mar T 18 (nI (m_rd T).1 - 1).toNatClampNeg - 48)
def m_scL (T : StM) : StM := nf m_sc2 3 (nf m_sc1 (nI (m_rd T).2.1).toNatClampNeg (m_sc0 T))
def m_scN (Z : StM) : StM := setMi (setMi (setMi (setMi Z 0 (Z.1 0 + 1)) 6 0) 12 0) 17 0
def m_school (T : StM) : Int32 × StM := if (m_rd T).2.2 = 0 then (-103, m_rdS T) else (nI (m_rd T).2.1, m_scN (m_scL T))

set_option maxHeartbeats 4000000 in
theorem cM_isFigure {G : Gx} (B : Base G) (a : Nat → Nat) (T : StM) (k : Nat) (lo hi : Int32) (hI : Rg (T.1 17) 18) (hk : k < 100) : Ci G yX1_isFigure cX1_isFigure 4 .boolean (rmD 1) (wM G a) T [.ref (a 0), .int (nI k), .int lo, .int hi] (fun r S' => r = p_fig (mar T 18) (T.1 17) k lo hi ∧ S' = T) := by
  refine Ci.of B [some (.ref (a 0)), some (.int (nI k)), some (.int lo), some (.int hi)] (by decide) rfl (Nat.le_of_ble_eq_true rfl) (fun E C hR => ?_)
  have C : CxOk E RX1 cX1_isFigure 4 G (rmD 1) := C
  refine r_iload_n (pc := 0) C dX1_isFigure_0 rfl ?_
  refine r_aload_n (pc := 1) C dX1_isFigure_1 rfl ?_
  refine M_g17 (pc := 2) C dX1_isFigure_2 ?_
  refine r_icmp_ge (pc := 5) 29 C dX1_isFigure_5 (by decide) (fun c5 => ?_) (fun c5 => ?_)
  · refine r_iconst (pc := 29) (0) C dX1_isFigure_29 (by decide) ?_
    exact r_zret (pc := 30) C hR dX1_isFigure_30 (by decide) (by decide) (by decide) ⟨by rw [p_fig, if_pos c5], rfl⟩
  · refine r_aload_n (pc := 8) C dX1_isFigure_8 rfl ?_
    refine M_g18 (pc := 9) C dX1_isFigure_9 ?_
    refine r_iload_n (pc := 12) C dX1_isFigure_12 rfl ?_
    refine M_l18 (pc := 13) C dX1_isFigure_13 (vin18 hI (by omega) c5) ?_
    rw [nI_clamp (by omega)]
    refine r_bipush (pc := 14) (48) C dX1_isFigure_14 (by decide) ?_
    refine r_isub (pc := 16) C dX1_isFigure_16 ?_
    refine r_iload_n (pc := 17) C dX1_isFigure_17 rfl ?_
    refine r_iload_n (pc := 18) C dX1_isFigure_18 rfl ?_
    refine S_cQi (pc := 19) C (cM_within B _ _ _) q826 mX1_within rfl dX1_isFigure_19 (by decide) (Nat.le_of_ble_eq_true rfl) ?_
    refine r_if_eq (pc := 22) 29 C dX1_isFigure_22 (by decide) (fun c22 => ?_) (fun c22 => ?_)
    · refine r_iconst (pc := 29) (0) C dX1_isFigure_29 (by decide) ?_
      exact r_zret (pc := 30) C hR dX1_isFigure_30 (by decide) (by decide) (by decide) ⟨by rw [p_fig, if_neg c5, if_pos c22], rfl⟩
    · refine r_iconst (pc := 25) (1) C dX1_isFigure_25 (by decide) ?_
      refine r_goto (pc := 26) 30 C dX1_isFigure_26 (by decide) ?_
      exact r_zret (pc := 30) C hR dX1_isFigure_30 (by decide) (by decide) (by decide) ⟨by rw [p_fig, if_neg c5, if_neg c22], rfl⟩

set_option maxHeartbeats 4000000 in
theorem cM_isSign {G : Gx} (B : Base G) (a : Nat → Nat) (T : StM) (k : Nat) (c : Int32) (hI : Rg (T.1 17) 18) (hk : k < 100) : Ci G yX1_isSign cX1_isSign 3 .boolean (rmD 0) (wM G a) T [.ref (a 0), .int (nI k), .int c] (fun r S' => r = p_sign (mar T 18) (T.1 17) k c ∧ S' = T) := by
  refine Ci.of B [some (.ref (a 0)), some (.int (nI k)), some (.int c)] (by decide) rfl (Nat.le_of_ble_eq_true rfl) (fun E C hR => ?_)
  have C : CxOk E RX1 cX1_isSign 3 G (rmD 0) := C
  refine r_iload_n (pc := 0) C dX1_isSign_0 rfl ?_
  refine r_aload_n (pc := 1) C dX1_isSign_1 rfl ?_
  refine M_g17 (pc := 2) C dX1_isSign_2 ?_
  refine r_icmp_ge (pc := 5) 22 C dX1_isSign_5 (by decide) (fun c5 => ?_) (fun c5 => ?_)
  · refine r_iconst (pc := 22) (0) C dX1_isSign_22 (by decide) ?_
    exact r_zret (pc := 23) C hR dX1_isSign_23 (by decide) (by decide) (by decide) ⟨by rw [p_sign, if_pos c5], rfl⟩
  · refine r_aload_n (pc := 8) C dX1_isSign_8 rfl ?_
    refine M_g18 (pc := 9) C dX1_isSign_9 ?_
    refine r_iload_n (pc := 12) C dX1_isSign_12 rfl ?_
    refine M_l18 (pc := 13) C dX1_isSign_13 (vin18 hI (by omega) c5) ?_
    rw [nI_clamp (by omega)]
    refine r_iload_n (pc := 14) C dX1_isSign_14 rfl ?_
    refine r_icmp_ne (pc := 15) 22 C dX1_isSign_15 (by decide) (fun c15 => ?_) (fun c15 => ?_)
    · refine r_iconst (pc := 22) (0) C dX1_isSign_22 (by decide) ?_
      exact r_zret (pc := 23) C hR dX1_isSign_23 (by decide) (by decide) (by decide) ⟨by rw [p_sign, if_neg c5, if_neg c15], rfl⟩
    · refine r_iconst (pc := 18) (1) C dX1_isSign_18 (by decide) ?_
      refine r_goto (pc := 19) 23 C dX1_isSign_19 (by decide) ?_
      exact r_zret (pc := 23) C hR dX1_isSign_23 (by decide) (by decide) (by decide) ⟨by rw [p_sign, if_neg c5, if_pos c15], rfl⟩

set_option maxHeartbeats 4000000 in
theorem cM_readLimit {G : Gx} (B : Base G) (a : Nat → Nat) (T : StM) (k : Nat) (hI : Rg (T.1 17) 18) (hk : k < 100) : Ci G yX1_readLimit cX1_readLimit 2 .int (rmD 2) (wM G a) T [.ref (a 0), .int (nI k)] (fun r S' => r = (m_rl T k).1 ∧ S' = (m_rl T k).2) := by
  refine Ci.of B [some (.ref (a 0)), some (.int (nI k))] (by decide) rfl (Nat.le_of_ble_eq_true rfl) (fun E C hR => ?_)
  have C : CxOk E RX1 cX1_readLimit 2 G (rmD 2) := C
  refine r_aload_n (pc := 0) C dX1_readLimit_0 rfl ?_
  refine r_iload_n (pc := 1) C dX1_readLimit_1 rfl ?_
  refine r_iconst (pc := 2) (0) C dX1_readLimit_2 (by decide) ?_
  refine r_bipush (pc := 3) (9) C dX1_readLimit_3 (by decide) ?_
  refine M_cQi (pc := 5) C (cM_isFigure B a _ _ _ _ (by first | assumption | exact hI) (by omega)) q841 mX1_isFigure rfl dX1_readLimit_5 (by decide) (Nat.le_of_ble_eq_true rfl) ?_
  refine r_if_ne (pc := 8) 13 C dX1_readLimit_8 (by decide) (fun c8 => ?_) (fun c8 => ?_)
  · refine r_aload_n (pc := 13) C dX1_readLimit_13 rfl ?_
    refine r_iload_n (pc := 14) C dX1_readLimit_14 rfl ?_
    refine r_iconst (pc := 15) (1) C dX1_readLimit_15 (by decide) ?_
    refine r_iadd (pc := 16) C dX1_readLimit_16 ?_
    refine r_aload_n (pc := 17) C dX1_readLimit_17 rfl ?_
    refine M_g17 (pc := 18) C dX1_readLimit_18 ?_
    refine r_icmp_ne (pc := 21) 28 C dX1_readLimit_21 (by decide) (fun c21 => ?_) (fun c21 => ?_)
    · refine r_iconst (pc := 28) (0) C dX1_readLimit_28 (by decide) ?_
      refine M_p19 (pc := 29) C dX1_readLimit_29 (by decide) ?_
      refine r_iload_n (pc := 32) C dX1_readLimit_32 rfl ?_
      refine r_iconst (pc := 33) (1) C dX1_readLimit_33 (by decide) ?_
      refine r_iadd (pc := 34) C dX1_readLimit_34 ?_
      exact r_iret (pc := 35) C hR dX1_readLimit_35 (by decide) (by decide) ⟨by rw [m_rl, if_neg c8], by rw [m_rl, if_neg c8, if_neg c21]⟩
    · refine r_iconst (pc := 24) (1) C dX1_readLimit_24 (by decide) ?_
      refine r_goto (pc := 25) 29 C dX1_readLimit_25 (by decide) ?_
      refine M_p19 (pc := 29) C dX1_readLimit_29 (by decide) ?_
      refine r_iload_n (pc := 32) C dX1_readLimit_32 rfl ?_
      refine r_iconst (pc := 33) (1) C dX1_readLimit_33 (by decide) ?_
      refine r_iadd (pc := 34) C dX1_readLimit_34 ?_
      exact r_iret (pc := 35) C hR dX1_readLimit_35 (by decide) (by decide) ⟨by rw [m_rl, if_neg c8], by rw [m_rl, if_neg c8, if_pos c21]⟩
  · refine r_iload_n (pc := 11) C dX1_readLimit_11 rfl ?_
    exact r_iret (pc := 12) C hR dX1_readLimit_12 (by decide) (by decide) ⟨by rw [m_rl, if_pos c8], by rw [m_rl, if_pos c8]⟩

theorem rd_0 {pg : Nat → Int32} {v : Int32} {f m k : Nat} (hm : m + f = 5) (h : 5 ≤ nI m) : p_read pg v f k m = (k, m, 0) := by
  have : ¬ m < 5 := fun h2 => (nI_ge (b := 5) h2 (by decide)) h
  obtain rfl : f = 0 := by omega
  rfl
theorem rd_s {f m : Nat} (hm : m + f = 5) (h : ¬ 5 ≤ nI m) : ∃ f', f = f' + 1 := by
  rcases f with _ | f
  · exact absurd (nI_le (a := 5) (b := m) (by omega) (by omega)) h
  · exact ⟨f, rfl⟩
theorem nI_2' (k : Nat) : nI k + 2 = nI (k + 2) := by
  rw [show (2 : Int32) = nI 2 from rfl, nI_add]
/-- readLimit behind the lessons: what read makes of it -/
theorem rl_eq {pg : Nat → Int32} {T : StM} {x : Nat × Nat × Int32} {k m : Nat} (hx : x = if p_fig (mar T 18) (T.1 17) (k + 3) 0 9 = 0 then (k + 3, m + 1, 0) else (k + 4, m + 1, if nI (k + 3) + 1 = T.1 17 then 1 else 0)) : (m_rl (m_rs T 0 (nI (m + 1))) (k + 3)).1 = nI x.1 ∧ (m_rl (m_rs T 0 (nI (m + 1))) (k + 3)).2 = m_rs T x.2.2 (nI x.2.1) := by
  unfold m_rl
  rw [show p_fig (mar (m_rs T 0 (nI (m + 1))) 18) ((m_rs T 0 (nI (m + 1))).1 17) (k + 3) 0 9 = p_fig (mar T 18) (T.1 17) (k + 3) 0 9 from rfl]
  by_cases h : p_fig (mar T 18) (T.1 17) (k + 3) 0 9 = 0
  · rw [if_pos h] at hx ⊢
    subst hx
    exact ⟨rfl, rfl⟩
  · rw [if_neg h] at hx ⊢
    subst hx
    exact ⟨nI_1 _, m_rs_w _ _ _ _⟩
set_option maxHeartbeats 4000000 in
theorem cM_read {G : Gx} (B : Base G) (a : Nat → Nat) (T : StM) (hI : Rg (T.1 17) 18) : Ci G yX1_read cX1_read 2 .int (rmD 3) (wM G a) T [.ref (a 0)] (fun r S' => r = nI (m_rd T).1 ∧ S' = m_rdS T) := by
  refine Ci.of B [some (.ref (a 0)), none] (by decide) rfl (Nat.le_of_ble_eq_true rfl) (fun E C hR => ?_)
  have C : CxOk E RX1 cX1_read 2 G (rmD 3) := C
  refine r_aload_n (pc := 0) C dX1_read_0 rfl ?_
  refine r_iconst (pc := 1) (0) C dX1_read_1 (by decide) ?_
  refine M_p19 (pc := 2) C dX1_read_2 (by decide) ?_
  refine r_aload_n (pc := 5) C dX1_read_5 rfl ?_
  refine r_iconst (pc := 6) (0) C dX1_read_6 (by decide) ?_
  refine M_p20 (pc := 7) C dX1_read_7 ?_
  refine r_iconst (pc := 10) (0) C dX1_read_10 (by decide) ?_
  refine r_istore_n (pc := 11) C dX1_read_11 (by decide) ?_
  refine V_ind (P := fun f m => m_rd T = p_read (mar T 18) (T.1 17) f (3 * m) m → V E 2 0 0 (wM G a (m_rs T 0 (nI m))) 12 [some (.ref (a 0)), some (.int (nI (3 * m)))] []) 5 (fun f m hm K12 hK => ?_) 5 0 rfl rfl
  · refine r_aload_n (pc := 12) C dX1_read_12 rfl ?_
    refine M_g20 (pc := 13) C dX1_read_13 ?_
    refine r_iconst (pc := 16) (5) C dX1_read_16 (by decide) ?_
    refine r_icmp_ge (pc := 17) 106 C dX1_read_17 (by decide) (fun c17 => ?_) (fun c17 => ?_)
    · refine r_iload_n (pc := 106) C dX1_read_106 rfl ?_
      exact r_iret (pc := 107) C hR dX1_read_107 (by decide) (by decide) ⟨by rw [hK, rd_0 hm c17], by rw [m_rdS, hK, rd_0 hm c17]⟩
    · obtain ⟨f, rfl⟩ := rd_s hm c17
      refine r_aload_n (pc := 20) C dX1_read_20 rfl ?_
      refine r_iload_n (pc := 21) C dX1_read_21 rfl ?_
      refine r_iconst (pc := 22) (1) C dX1_read_22 (by decide) ?_
      refine r_bipush (pc := 23) (9) C dX1_read_23 (by decide) ?_
      refine M_cQi (pc := 25) C (cM_isFigure B a _ _ _ _ (by first | assumption | exact hI) (by omega)) q841 mX1_isFigure rfl dX1_read_25 (by decide) (Nat.le_of_ble_eq_true rfl) ?_
      refine r_if_ne (pc := 28) 33 C dX1_read_28 (by decide) (fun c28 => ?_) (fun c28 => ?_)
      · have c28 : ¬ p_fig (mar T 18) (T.1 17) (3 * m) 1 9 = 0 := c28
        refine r_aload_n (pc := 33) C dX1_read_33 rfl ?_
        refine r_iload_n (pc := 34) C dX1_read_34 rfl ?_
        refine r_iconst (pc := 35) (1) C dX1_read_35 (by decide) ?_
        refine r_iadd (pc := 36) C dX1_read_36 ?_
        refine r_iconst (pc := 37) (1) C dX1_read_37 (by decide) ?_
        refine r_iconst (pc := 38) (5) C dX1_read_38 (by decide) ?_
        rw [nI_1]
        refine M_cQi (pc := 39) C (cM_isFigure B a _ _ _ _ (by first | assumption | exact hI) (by omega)) q841 mX1_isFigure rfl dX1_read_39 (by decide) (Nat.le_of_ble_eq_true rfl) ?_
        refine r_if_ne (pc := 42) 49 C dX1_read_42 (by decide) (fun c42 => ?_) (fun c42 => ?_)
        · have c42 : ¬ p_fig (mar T 18) (T.1 17) (3 * m + 1) 1 5 = 0 := c42
          refine r_aload_n (pc := 49) C dX1_read_49 rfl ?_
          refine r_dup (pc := 50) C dX1_read_50 rfl ?_
          refine M_g20 (pc := 51) C dX1_read_51 ?_
          refine r_iconst (pc := 54) (1) C dX1_read_54 (by decide) ?_
          refine r_iadd (pc := 55) C dX1_read_55 ?_
          refine M_p20 (pc := 56) C dX1_read_56 ?_
          rw [m_rs_inc]
          refine r_iinc (pc := 59) _ C dX1_read_59 rfl rfl (by decide) ?_
          rw [show nI (3 * m) + Int32.ofInt 2 = nI (3 * m + 2) from nI_2' _]
          refine r_aload_n (pc := 62) C dX1_read_62 rfl ?_
          refine r_iload_n (pc := 63) C dX1_read_63 rfl ?_
          refine r_bipush (pc := 64) (59) C dX1_read_64 (by decide) ?_
          refine M_cQi (pc := 66) C (cM_isSign B a _ _ _ (by first | assumption | exact hI) (by omega)) q845 mX1_isSign rfl dX1_read_66 (by decide) (Nat.le_of_ble_eq_true rfl) ?_
          refine r_if_eq (pc := 69) 80 C dX1_read_69 (by decide) (fun c69 => ?_) (fun c69 => ?_)
          · have c69 : p_sign (mar T 18) (T.1 17) (3 * m + 2) 59 = 0 := c69
            refine r_aload_n (pc := 80) C dX1_read_80 rfl ?_
            refine M_g20 (pc := 81) C dX1_read_81 ?_
            refine r_iconst (pc := 84) (5) C dX1_read_84 (by decide) ?_
            refine r_icmp_eq (pc := 85) 98 C dX1_read_85 (by decide) (fun c85 => ?_) (fun c85 => ?_)
            · have c85 : nI (m + 1) = 5 := c85
              refine r_iload_n (pc := 98) C dX1_read_98 rfl ?_
              exact r_iret (pc := 99) C hR dX1_read_99 (by decide) (by decide) ⟨by rw [hK, p_read, if_neg c28, if_neg c42, if_pos c69, if_pos c85], by rw [m_rdS, hK, p_read, if_neg c28, if_neg c42, if_pos c69, if_pos c85] <;> rfl⟩
            · have c85 : ¬ nI (m + 1) = 5 := c85
              refine r_aload_n (pc := 88) C dX1_read_88 rfl ?_
              refine r_iload_n (pc := 89) C dX1_read_89 rfl ?_
              refine r_bipush (pc := 90) (44) C dX1_read_90 (by decide) ?_
              refine M_cQi (pc := 92) C (cM_isSign B a _ _ _ (by first | assumption | exact hI) (by omega)) q845 mX1_isSign rfl dX1_read_92 (by decide) (Nat.le_of_ble_eq_true rfl) ?_
              refine r_if_ne (pc := 95) 100 C dX1_read_95 (by decide) (fun c95 => ?_) (fun c95 => ?_)
              · have c95 : ¬ p_sign (mar T 18) (T.1 17) (3 * m + 2) 44 = 0 := c95
                refine r_iinc (pc := 100) _ C dX1_read_100 rfl rfl (by decide) ?_
                refine r_goto (pc := 103) 12 C dX1_read_103 (by decide) ?_
                rw [show nI (3 * m + 2) + Int32.ofInt 1 = nI (3 * (m + 1)) from nI_1 _]
                exact K12 (Nat.succ_pos _) (hK.trans (by rw [p_read, if_neg c28, if_neg c42, if_pos c69, if_neg c85, if_neg c95] <;> rfl))
              · have c95 : p_sign (mar T 18) (T.1 17) (3 * m + 2) 44 = 0 := c95
                refine r_iload_n (pc := 98) C dX1_read_98 rfl ?_
                exact r_iret (pc := 99) C hR dX1_read_99 (by decide) (by decide) ⟨by rw [hK, p_read, if_neg c28, if_neg c42, if_pos c69, if_neg c85, if_pos c95], by rw [m_rdS, hK, p_read, if_neg c28, if_neg c42, if_pos c69, if_neg c85, if_pos c95] <;> rfl⟩
          · have c69 : ¬ p_sign (mar T 18) (T.1 17) (3 * m + 2) 59 = 0 := c69
            refine r_aload_n (pc := 72) C dX1_read_72 rfl ?_
            refine r_iload_n (pc := 73) C dX1_read_73 rfl ?_
            refine r_iconst (pc := 74) (1) C dX1_read_74 (by decide) ?_
            refine r_iadd (pc := 75) C dX1_read_75 ?_
            rw [nI_1]
            refine M_cQi (pc := 76) C (cM_readLimit B a _ _ (by first | assumption | exact hI) (by omega)) q849 mX1_readLimit rfl dX1_read_76 (by decide) (Nat.le_of_ble_eq_true rfl) ?_
            exact r_iret (pc := 79) C hR dX1_read_79 (by decide) (by decide) (by have hr := rl_eq (pg := mar T 18) (hK.trans (by rw [p_read, if_neg c28, if_neg c42, if_neg c69])); exact ⟨hr.1, hr.2⟩)
        · have c42 : p_fig (mar T 18) (T.1 17) (3 * m + 1) 1 5 = 0 := c42
          refine r_iload_n (pc := 45) C dX1_read_45 rfl ?_
          refine r_iconst (pc := 46) (1) C dX1_read_46 (by decide) ?_
          refine r_iadd (pc := 47) C dX1_read_47 ?_
          exact r_iret (pc := 48) C hR dX1_read_48 (by decide) (by decide) ⟨by rw [hK, p_read, if_neg c28, if_pos c42]; exact nI_1 _, by rw [m_rdS, hK, p_read, if_neg c28, if_pos c42] <;> rfl⟩
      · have c28 : p_fig (mar T 18) (T.1 17) (3 * m) 1 9 = 0 := c28
        refine r_iload_n (pc := 31) C dX1_read_31 rfl ?_
        exact r_iret (pc := 32) C hR dX1_read_32 (by decide) (by decide) ⟨by rw [hK, p_read, if_pos c28], by rw [m_rdS, hK, p_read, if_pos c28] <;> rfl⟩

set_option maxHeartbeats 4000000 in
theorem cM_fault {G : Gx} (B : Base G) (a : Nat → Nat) (T : StM) (hI : Rg (T.1 17) 18) : Ci G yX1_fault cX1_fault 1 .int (rmD 4) (wM G a) T [.ref (a 0)] (fun r S' => r = nI (m_rd T).1 ∧ S' = m_rdS T) := by
  refine Ci.of B [some (.ref (a 0))] (by decide) rfl (Nat.le_of_ble_eq_true rfl) (fun E C hR => ?_)
  have C : CxOk E RX1 cX1_fault 1 G (rmD 4) := C
  refine r_aload_n (pc := 0) C dX1_fault_0 rfl ?_
  refine M_cQi (pc := 1) C (cM_read B a _ (by assumption)) q837 mX1_read rfl dX1_fault_1 (by decide) (Nat.le_of_ble_eq_true rfl) ?_
  exact r_iret (pc := 4) C hR dX1_fault_4 (by decide) (by decide) ⟨rfl, rfl⟩

theorem rd_w {pg : Nat → Int32} {v : Int32} : ∀ f k m, m + f = 5 → k = 3 * m → ¬ (p_read pg v f k m).2.2 = 0 → (p_read pg v f k m).1 = 3 * (p_read pg v f k m).2.1 + 1 ∧ (p_read pg v f k m).2.1 ≤ 5 ∧ 1 ≤ (p_read pg v f k m).2.1 := by
  intro f
  induction f with
  | zero => intro k m _ _ h; exact absurd rfl h
  | succ f ih =>
    intro k m hm hk
    unfold p_read
    by_cases c1 : p_fig pg v k 1 9 = 0
    · rw [if_pos c1]; intro h; exact absurd rfl h
    · rw [if_neg c1]
      by_cases c2 : p_fig pg v (k + 1) 1 5 = 0
      · rw [if_pos c2]; intro h; exact absurd rfl h
      · rw [if_neg c2]
        by_cases c3 : p_sign pg v (k + 2) 59 = 0
        · rw [if_pos c3]
          by_cases c4 : nI (m + 1) = 5
          · rw [if_pos c4]; intro h; exact absurd rfl h
          · rw [if_neg c4]
            by_cases c5 : p_sign pg v (k + 2) 44 = 0
            · rw [if_pos c5]; intro h; exact absurd rfl h
            · rw [if_neg c5]
              exact ih (k + 3) (m + 1) (by omega) (by omega)
        · rw [if_neg c3]
          by_cases c6 : p_fig pg v (k + 3) 0 9 = 0
          · rw [if_pos c6]; intro h; exact absurd rfl h
          · rw [if_neg c6]
            intro _
            refine ⟨?_, ?_, ?_⟩
            · show k + 4 = 3 * (m + 1) + 1; omega
            · show m + 1 ≤ 5; omega
            · show 1 ≤ m + 1; omega
theorem msc1_1 (Z : StM) (i : Nat) : (nf m_sc1 i Z).1 1 = Z.1 1 := by
  induction i with
  | zero => rfl
  | succ i ih => exact ih
set_option maxHeartbeats 4000000 in
theorem cM_school {G : Gx} (B : Base G) (a : Nat → Nat) (T : StM) (hI : Rg (T.1 17) 18) : Ci G yX1_school cX1_school 3 .int (rmD 4) (wM G a) T [.ref (a 0)] (fun r S' => r = (m_school T).1 ∧ S' = (m_school T).2) := by
  refine Ci.of B [some (.ref (a 0)), none, none] (by decide) rfl (Nat.le_of_ble_eq_true rfl) (fun E C hR => ?_)
  have C : CxOk E RX1 cX1_school 3 G (rmD 4) := C
  refine r_aload_n (pc := 0) C dX1_school_0 rfl ?_
  refine M_cQi (pc := 1) C (cM_read B a _ (by assumption)) q837 mX1_read rfl dX1_school_1 (by decide) (Nat.le_of_ble_eq_true rfl) ?_
  refine r_istore_n (pc := 4) C dX1_school_4 (by decide) ?_
  refine r_aload_n (pc := 5) C dX1_school_5 rfl ?_
  refine M_g19 (pc := 6) C dX1_school_6 ?_
  refine r_if_ne (pc := 9) 15 C dX1_school_9 (by decide) (fun c9 => ?_) (fun c9 => ?_)
  · have c9 : ¬ (m_rd T).2.2 = 0 := c9
    obtain ⟨hw1, hw2, hw3⟩ : (m_rd T).1 = 3 * (m_rd T).2.1 + 1 ∧ (m_rd T).2.1 ≤ 5 ∧ 1 ≤ (m_rd T).2.1 := rd_w 5 0 0 rfl rfl c9
    have hl : Rg (nI (m_rd T).2.1) 5 := Rg.of hw2 (by decide)
    refine r_aload_n (pc := 15) C dX1_school_15 rfl ?_
    refine r_aload_n (pc := 16) C dX1_school_16 rfl ?_
    refine M_g20 (pc := 17) C dX1_school_17 ?_
    refine M_p1 (pc := 20) C dX1_school_20 ?_
    refine r_aload_n (pc := 23) C dX1_school_23 rfl ?_
    refine r_aload_n (pc := 24) C dX1_school_24 rfl ?_
    refine M_g18 (pc := 25) C dX1_school_25 ?_
    refine r_iload_n (pc := 28) C dX1_school_28 rfl ?_
    refine r_iconst (pc := 29) (1) C dX1_school_29 (by decide) ?_
    refine r_isub (pc := 30) C dX1_school_30 ?_
    refine M_l18 (pc := 31) C dX1_school_31 (by rw [show (1 : Int32) = nI 1 from rfl, pk_sub (by omega)]; exact vp_in_nI (by omega) (by decide)) ?_
    refine r_bipush (pc := 32) (48) C dX1_school_32 (by decide) ?_
    refine r_isub (pc := 34) C dX1_school_34 ?_
    refine M_p2 (pc := 35) C dX1_school_35 ?_
    refine r_iconst (pc := 38) (0) C dX1_school_38 (by decide) ?_
    refine r_istore_n (pc := 39) C dX1_school_39 (by decide) ?_
    refine V_for (P := fun i Z => V E 3 0 0 (wM G a Z) 40 [some (.ref (a 0)), some (.int (nI (m_rd T).1)), some (.int (nI i))] []) m_sc1 (m_sc0 T) (nI (m_rd T).2.1).toNatClampNeg (fun i hi K40 => ?_) ?_
    · have hi5 : i < 5 := Nat.lt_of_lt_of_le hi hl.2
      have e0 : (nf m_sc1 i (m_sc0 T)).1 1 = nI (m_rd T).2.1 := msc1_1 (m_sc0 T) i
      refine r_iload_n (pc := 40) C dX1_school_40 rfl ?_
      refine r_aload_n (pc := 41) C dX1_school_41 rfl ?_
      refine M_g1 (pc := 42) C dX1_school_42 ?_
      refine r_icmp_ge (pc := 45) 90 C dX1_school_45 (by decide) (fun c45 => ?_) (fun c45 => ?_)
      · rw [e0] at c45
        exact absurd c45 (lp_in hl (by decide) hi)
      · refine r_aload_n (pc := 48) C dX1_school_48 rfl ?_
        refine M_g3 (pc := 49) C dX1_school_49 ?_
        refine r_iload_n (pc := 52) C dX1_school_52 rfl ?_
        refine r_aload_n (pc := 53) C dX1_school_53 rfl ?_
        refine M_g18 (pc := 54) C dX1_school_54 ?_
        refine r_iconst (pc := 57) (3) C dX1_school_57 (by decide) ?_
        refine r_iload_n (pc := 58) C dX1_school_58 rfl ?_
        refine r_imul (pc := 59) C dX1_school_59 ?_
        refine M_l18 (pc := 60) C dX1_school_60 (vin18a hi5) ?_
        refine r_bipush (pc := 61) (48) C dX1_school_61 (by decide) ?_
        refine r_isub (pc := 63) C dX1_school_63 ?_
        refine M_s3 (pc := 64) C dX1_school_64 (vp_in_nI hi5 (by decide)) ?_
        refine r_aload_n (pc := 65) C dX1_school_65 rfl ?_
        refine M_g4 (pc := 66) C dX1_school_66 ?_
        refine r_iload_n (pc := 69) C dX1_school_69 rfl ?_
        refine r_aload_n (pc := 70) C dX1_school_70 rfl ?_
        refine M_g18 (pc := 71) C dX1_school_71 ?_
        refine r_iconst (pc := 74) (3) C dX1_school_74 (by decide) ?_
        refine r_iload_n (pc := 75) C dX1_school_75 rfl ?_
        refine r_imul (pc := 76) C dX1_school_76 ?_
        refine r_iconst (pc := 77) (1) C dX1_school_77 (by decide) ?_
        refine r_iadd (pc := 78) C dX1_school_78 ?_
        refine M_l18 (pc := 79) C dX1_school_79 (vin18b hi5) ?_
        refine r_bipush (pc := 80) (48) C dX1_school_80 (by decide) ?_
        refine r_isub (pc := 82) C dX1_school_82 ?_
        refine M_s4 (pc := 83) C dX1_school_83 (vp_in_nI hi5 (by decide)) ?_
        refine r_iinc (pc := 84) _ C dX1_school_84 rfl (nI_1 i) (by decide) ?_
        refine r_goto (pc := 87) 40 C dX1_school_87 (by decide) ?_
        exact K40
    · have e0 : (nf m_sc1 (nI (m_rd T).2.1).toNatClampNeg (m_sc0 T)).1 1 = nI (m_rd T).2.1 := msc1_1 (m_sc0 T) _
      refine r_iload_n (pc := 40) C dX1_school_40 rfl ?_
      refine r_aload_n (pc := 41) C dX1_school_41 rfl ?_
      refine M_g1 (pc := 42) C dX1_school_42 ?_
      refine r_icmp_ge (pc := 45) 90 C dX1_school_45 (by decide) (fun c45 => ?_) (fun c45 => ?_)
      · refine r_iconst (pc := 90) (0) C dX1_school_90 (by decide) ?_
        refine r_istore_n (pc := 91) C dX1_school_91 (by decide) ?_
        refine V_for (P := fun i Z => V E 3 0 0 (wM G a Z) 92 [some (.ref (a 0)), some (.int (nI (m_rd T).1)), some (.int (nI i))] []) m_sc2 _ 3 (fun i hi K92 => ?_) ?_
        · refine r_iload_n (pc := 92) C dX1_school_92 rfl ?_
          refine r_iconst (pc := 93) (3) C dX1_school_93 (by decide) ?_
          refine r_icmp_ge (pc := 94) 110 C dX1_school_94 (by decide) (fun c94 => ?_) (fun c94 => ?_)
          · exact absurd c94 (lp_in R33 (by decide) hi)
          · refine r_aload_n (pc := 97) C dX1_school_97 rfl ?_
            refine M_g5 (pc := 98) C dX1_school_98 ?_
            refine r_iload_n (pc := 101) C dX1_school_101 rfl ?_
            refine r_iconst (pc := 102) (0) C dX1_school_102 (by decide) ?_
            refine M_s5 (pc := 103) C dX1_school_103 (vp_in_nI hi (by decide)) ?_
            refine r_iinc (pc := 104) _ C dX1_school_104 rfl (nI_1 i) (by decide) ?_
            refine r_goto (pc := 107) 92 C dX1_school_107 (by decide) ?_
            exact K92
        · refine r_iload_n (pc := 92) C dX1_school_92 rfl ?_
          refine r_iconst (pc := 93) (3) C dX1_school_93 (by decide) ?_
          refine r_icmp_ge (pc := 94) 110 C dX1_school_94 (by decide) (fun c94 => ?_) (fun c94 => ?_)
          · refine r_aload_n (pc := 110) C dX1_school_110 rfl ?_
            refine r_dup (pc := 111) C dX1_school_111 rfl ?_
            refine M_g0 (pc := 112) C dX1_school_112 ?_
            refine r_iconst (pc := 115) (1) C dX1_school_115 (by decide) ?_
            refine r_iadd (pc := 116) C dX1_school_116 ?_
            refine M_p0 (pc := 117) C dX1_school_117 ?_
            refine r_aload_n (pc := 120) C dX1_school_120 rfl ?_
            refine r_iconst (pc := 121) (0) C dX1_school_121 (by decide) ?_
            refine M_p6 (pc := 122) C dX1_school_122 ?_
            refine r_aload_n (pc := 125) C dX1_school_125 rfl ?_
            refine r_iconst (pc := 126) (0) C dX1_school_126 (by decide) ?_
            refine M_p12 (pc := 127) C dX1_school_127 ?_
            refine r_aload_n (pc := 130) C dX1_school_130 rfl ?_
            refine r_iconst (pc := 131) (0) C dX1_school_131 (by decide) ?_
            refine M_p17 (pc := 132) C dX1_school_132 ?_
            refine r_aload_n (pc := 135) C dX1_school_135 rfl ?_
            refine M_g1 (pc := 136) C dX1_school_136 ?_
            exact r_iret (pc := 139) C hR dX1_school_139 (by decide) (by decide) ⟨(by rw [m_school, if_neg c9]; exact e0), (by rw [m_school, if_neg c9]; rfl)⟩
          · exact absurd (lp_out R33 (by decide)) c94
      · rw [e0] at c45
        exact absurd (lp_out hl (by decide)) c45
  · have c9 : (m_rd T).2.2 = 0 := c9
    refine r_bipush (pc := 12) (-103) C dX1_school_12 (by decide) ?_
    exact r_iret (pc := 14) C hR dX1_school_14 (by decide) (by decide) ⟨by rw [m_school, if_pos c9], by rw [m_school, if_pos c9]⟩

