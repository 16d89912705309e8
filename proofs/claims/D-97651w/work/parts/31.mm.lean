
set_option maxRecDepth 100000
def mm (T : StM) : Nat := (T.1 6).toNatClampNeg
def unF (m c p : Nat) (z : Int32) : Int32 := z ||| (1 : Int32) <<< (nI (dgN m c p) &&& 31)
def unX (m c p : Nat) : Int32 := nf (unF m c) p 0
def m_ms (T : StM) (l : Int32) (c p : Nat) (z : Int32) : Int32 := z + (10 - m_tenthsBy T (nI p) l (mar T 11 (3 * nI p + nI (dgN (mm T) c p)).toNatClampNeg)) * mar T 4 l.toNatClampNeg
def m_msum (T : StM) (l : Int32) (c : Nat) : Int32 := nf (m_ms T l c) (mm T) 0
def m_mb (T : StM) (l : Int32) (c : Nat) : Int32 := if ∀ q, q < mm T → jhas (unX (mm T) c q) (nI (dgN (mm T) c q)) = 0 then m_msum T l c else 268435456
def m_nwF (T : StM) (l : Int32) (c : Nat) (q : Int32 × Int32) : Int32 × Int32 := if q.2 ≤ m_mb T l c then q else (nI c, m_mb T l c)
def m_nw (T : StM) (l : Int32) : Int32 × Int32 := nf (m_nwF T l) (3 ^ mm T) (-1, 268435456)
def m_matchNow (T : StM) (l w : Int32) : Int32 := if 2 ≤ w then (if m_isPrince T (w - 10) = 0 then -1 else nI (dgN (mm T) (m_nw T l).1.toNatClampNeg (w - 10).toNatClampNeg)) else (termN (m_nw T l).2.toNatClampNeg 10 w).toInt32
def m_match (T : StM) (l w : Int32) : Int32 := if m_isLesson T l = 0 then -101 else if jin w 0 1 = 0 then (if jin w 10 12 = 0 then -102 else m_matchNow T l w) else m_matchNow T l w
theorem IM.blow {T : StM} (h : IM T) {j : Nat} (hj : j < 5) : Rg (mar T 4 j) 5 := (h.2.2.2.2.2.2.1 j hj).2
theorem mms_rg {T : StM} (hI : IM T) {l : Int32} (hl : vp_in l 5) (c : Nat) : ∀ p, p ≤ 3 → Rg (nf (m_ms T l c) p 0) (50 * p) := by
  intro p
  induction p with
  | zero => intro _; exact Rg.of (j := 0) (by omega) (by decide)
  | succ p ih =>
    intro hp
    have h1 := ih (by omega)
    show Rg (nf (m_ms T l c) p 0 + (10 - m_tenthsBy T (nI p) l _) * mar T 4 l.toNatClampNeg) (50 * (p + 1))
    have h2 : Rg (m_tenthsBy T (nI p) l (mar T 11 (3 * nI p + nI (dgN (mm T) c p)).toNatClampNeg)) 10 := tenthsF_rg _ _ _ _
    have h3 := hI.blow (vp_lt hl (by decide)).1
    rw [h1.1, h2.1, h3.1]
    have g1 := h1.2
    have g2 := h2.2
    have g3 := h3.2
    generalize (nf (m_ms T l c) p 0).toNatClampNeg = x at g1
    generalize (m_tenthsBy T (nI p) l (mar T 11 (3 * nI p + nI (dgN (mm T) c p)).toNatClampNeg)).toNatClampNeg = y at g2
    generalize (mar T 4 l.toNatClampNeg).toNatClampNeg = z at g3
    rw [show (10 : Int32) = nI 10 from rfl, pk_sub g2, pk_mul, nI_add]
    have h4 : (10 - y) * z ≤ 10 * 5 := Nat.mul_le_mul (by omega) g3
    exact Rg.of (by omega) (by omega)
theorem un_ex : ∀ m, m ≤ 3 → ∃ c, c < 3 ^ m ∧ ∀ q, q < m → jhas (unX m c q) (nI (dgN m c q)) = 0 := by
  intro m hm
  rcases (by omega : m = 0 ∨ m = 1 ∨ m = 2 ∨ m = 3) with rfl | rfl | rfl | rfl
  · exact ⟨0, by decide, by decide +kernel⟩
  · exact ⟨0, by decide, by decide +kernel⟩
  · exact ⟨1, by decide, by decide +kernel⟩
  · exact ⟨5, by decide, by decide +kernel⟩
theorem nw_rg {T : StM} (hI : IM T) {l : Int32} (hl : vp_in l 5) : Rg (m_nw T l).2 150 ∧ Rg (m_nw T l).1 26 := by
  have hm3 : mm T ≤ 3 := hI.many.2
  have h27 := pw27 hm3
  have hs : ∀ c, Rg (m_msum T l c) 150 := fun c => (mms_rg hI hl c (mm T) hm3).le (by omega)
  obtain ⟨c0, h0, e0⟩ := un_ex (mm T) hm3
  have hlt : ∀ v, Rg v 150 → ¬ (268435456 : Int32) ≤ v := by
    intro v hv
    rw [hv.1]
    have := hv.2
    exact nI_ge (b := 268435456) (by omega) (by decide)
  have key : ∀ n, n ≤ 3 ^ mm T → ((nf (m_nwF T l) n (-1, 268435456)).2 = 268435456 ∧ n ≤ c0) ∨ (Rg (nf (m_nwF T l) n (-1, 268435456)).2 150 ∧ Rg (nf (m_nwF T l) n (-1, 268435456)).1 26) := by
    intro n
    induction n with
    | zero => intro _; exact Or.inl ⟨rfl, Nat.zero_le _⟩
    | succ n ih =>
      intro hn
      show ((m_nwF T l n (nf (m_nwF T l) n (-1, 268435456))).2 = 268435456 ∧ _) ∨ (Rg (m_nwF T l n (nf (m_nwF T l) n (-1, 268435456))).2 150 ∧ Rg (m_nwF T l n (nf (m_nwF T l) n (-1, 268435456))).1 26)
      have ih := ih (by omega)
      generalize nf (m_nwF T l) n (-1, 268435456) = q at ih
      unfold m_nwF
      by_cases c1 : q.2 ≤ m_mb T l n
      · rw [if_pos c1]
        rcases ih with h | h
        · refine Or.inl ⟨h.1, ?_⟩
          have : ¬ n = c0 := by
            intro e
            subst e
            rw [h.1, m_mb, if_pos e0] at c1
            exact hlt _ (hs n) c1
          omega
        · exact Or.inr h
      · rw [if_neg c1]
        refine Or.inr ⟨?_, Rg.of (by omega) (by decide)⟩
        show Rg (m_mb T l n) 150
        unfold m_mb at c1 ⊢
        split
        · exact hs n
        · rename_i c2
          rw [if_neg c2] at c1
          rcases ih with h | h
          · exact absurd (by rw [h.1]; exact Int32.le_refl _) c1
          · refine absurd ?_ c1
            rw [h.1.1]
            have := h.1.2
            exact nI_le (b := 268435456) (by omega) (by decide)
  rcases key (3 ^ mm T) (Nat.le_refl _) with h | h
  · omega
  · exact h
theorem bdec {m i p : Nat} (h : i < m - 1 - p) : nI (m - 1 - i) + Int32.ofInt (-1) = nI (m - 1 - (i + 1)) := by
  rw [show m - 1 - (i + 1) = m - 1 - i - 1 by omega]
  exact sb_m1 (by omega)

set_option maxHeartbeats 4000000 in
theorem cM_boyBy {G : Gx} (B : Base G) (a : Nat → Nat) (T : StM) (c p : Nat) (hc : c < 27) (hp : p < mm T) (hm : Rg (T.1 6) 3) : Ci G yX1_boyBy cX1_boyBy 5 .int (rmD 0) (wM G a) T [.ref (a 0), .int (nI c), .int (nI p)] (fun r S' => r = nI (dgN (mm T) c p) ∧ S' = T) := by
  refine Ci.of B [some (.ref (a 0)), some (.int (nI c)), some (.int (nI p)), none, none] (by decide) rfl (Nat.le_of_ble_eq_true rfl) (fun E C hR => ?_)
  have C : CxOk E RX1 cX1_boyBy 5 G (rmD 0) := C
  have hm3 : mm T ≤ 3 := hm.2
  have em : T.1 6 = nI (mm T) := hm.1
  have em1 : T.1 6 - 1 = nI (mm T - 1) := by rw [em, show (1 : Int32) = nI 1 from rfl, pk_sub (by omega)]
  have ec : nI c = nI (c / 3 ^ 0) := by rw [Nat.pow_zero, Nat.div_one]
  refine r_iload_n (pc := 0) C dX1_boyBy_0 rfl ?_
  refine r_istore_n (pc := 1) C dX1_boyBy_1 (by decide) ?_
  refine r_aload_n (pc := 2) C dX1_boyBy_2 rfl ?_
  refine M_g6 (pc := 3) C dX1_boyBy_3 ?_
  refine r_iconst (pc := 6) (1) C dX1_boyBy_6 (by decide) ?_
  refine r_isub (pc := 7) C dX1_boyBy_7 ?_
  refine r_istore (pc := 8) C dX1_boyBy_8 (by decide) ?_
  rw [em1, ec]
  refine V_cnt (P := fun i => V E 5 0 0 (wM G a T) 10 [some (.ref (a 0)), some (.int (nI (c / 3 ^ 0))), some (.int (nI p)), some (.int (nI (c / 3 ^ i))), some (.int (nI (mm T - 1 - i)))] []) (mm T - 1 - p) (fun i hi K10 => ?_) ?_
  · refine r_iload (pc := 10) C dX1_boyBy_10 rfl ?_
    refine r_iload_n (pc := 12) C dX1_boyBy_12 rfl ?_
    refine r_icmp_le (pc := 13) 26 C dX1_boyBy_13 (by decide) (fun c13 => ?_) (fun c13 => ?_)
    · exact absurd c13 (nI_ge (by omega) (by omega))
    · refine r_iload_n (pc := 16) C dX1_boyBy_16 rfl ?_
      refine r_iconst (pc := 17) (3) C dX1_boyBy_17 (by decide) ?_
      refine r_idiv (pc := 18) C dX1_boyBy_18 (by decide) ?_
      rw [div3 hc]
      refine r_istore_n (pc := 19) C dX1_boyBy_19 (by decide) ?_
      refine r_iinc (pc := 20) _ C dX1_boyBy_20 rfl (bdec hi) (by decide) ?_
      refine r_goto (pc := 23) 10 C dX1_boyBy_23 (by decide) ?_
      exact K10
  · refine r_iload (pc := 10) C dX1_boyBy_10 rfl ?_
    refine r_iload_n (pc := 12) C dX1_boyBy_12 rfl ?_
    refine r_icmp_le (pc := 13) 26 C dX1_boyBy_13 (by decide) (fun c13 => ?_) (fun c13 => ?_)
    · refine r_iload_n (pc := 26) C dX1_boyBy_26 rfl ?_
      refine r_iconst (pc := 27) (3) C dX1_boyBy_27 (by decide) ?_
      refine r_irem (pc := 28) C dX1_boyBy_28 (by decide) ?_
      exact r_iret (pc := 29) C hR dX1_boyBy_29 (by decide) (by decide) ⟨rem3 hc, rfl⟩
    · exact absurd (nI_le (by omega) (by omega)) c13

set_option maxHeartbeats 4000000 in
theorem cM_matchBy {G : Gx} (B : Base G) (a : Nat → Nat) (T : StM) (l : Int32) (c : Nat) (hI : IM T) (hl : vp_in l 5) (hc : c < 27) : Ci G yX1_matchBy cX1_matchBy 7 .int (rmD 2) (wM G a) T [.ref (a 0), .int l, .int (nI c)] (fun r S' => r = m_mb T l c ∧ S' = T) := by
  refine Ci.of B [some (.ref (a 0)), some (.int l), some (.int (nI c)), none, none, none, none] (by decide) rfl (Nat.le_of_ble_eq_true rfl) (fun E C hR => ?_)
  have C : CxOk E RX1 cX1_matchBy 7 G (rmD 2) := C
  have em : T.1 6 = nI (mm T) := hI.many.1
  have hm3 : mm T ≤ 3 := hI.many.2
  have h27 := pw27 hm3
  refine r_iconst (pc := 0) (0) C dX1_matchBy_0 (by decide) ?_
  refine r_istore_n (pc := 1) C dX1_matchBy_1 (by decide) ?_
  refine r_iconst (pc := 2) (0) C dX1_matchBy_2 (by decide) ?_
  refine r_istore (pc := 3) C dX1_matchBy_3 (by decide) ?_
  refine r_iconst (pc := 5) (0) C dX1_matchBy_5 (by decide) ?_
  refine r_istore (pc := 6) C dX1_matchBy_6 (by decide) ?_
  refine V_cnt (P := fun i => (∀ q, q < i → jhas (unX (mm T) c q) (nI (dgN (mm T) c q)) = 0) → V E 7 0 0 (wM G a T) 8 [some (.ref (a 0)), some (.int l), some (.int (nI c)), some (.int (unX (mm T) c i)), some (.int (nf (m_ms T l c) i 0)), some (.int (nI i)), none] []) (mm T) (fun i hi K8 hd => ?_) (fun hd => ?_) (fun q hq => absurd hq (Nat.not_lt_zero q))
  · have hi3 : i < 3 := by omega
    have hp3 : vp_in (nI i) 3 := vp_in_nI hi3 (by decide)
    refine r_iload (pc := 8) C dX1_matchBy_8 rfl ?_
    refine r_aload_n (pc := 10) C dX1_matchBy_10 rfl ?_
    refine M_g6 (pc := 11) C dX1_matchBy_11 ?_
    refine r_icmp_ge (pc := 14) 85 C dX1_matchBy_14 (by decide) (fun c14 => ?_) (fun c14 => ?_)
    · rw [em] at c14
      exact absurd c14 (nI_ge hi (by omega))
    · refine r_aload_n (pc := 17) C dX1_matchBy_17 rfl ?_
      refine r_iload_n (pc := 18) C dX1_matchBy_18 rfl ?_
      refine r_iload (pc := 19) C dX1_matchBy_19 rfl ?_
      refine M_cQi (pc := 21) C (cM_boyBy B a _ _ _ (by omega) (by assumption) hI.many) q992 mX1_boyBy rfl dX1_matchBy_21 (by decide) (Nat.le_of_ble_eq_true rfl) ?_
      refine r_istore (pc := 24) C dX1_matchBy_24 (by decide) ?_
      refine r_iload_n (pc := 26) C dX1_matchBy_26 rfl ?_
      refine r_iload (pc := 27) C dX1_matchBy_27 rfl ?_
      refine S_cQi (pc := 29) C (cM_has B _ _) q873 mX1_has rfl dX1_matchBy_29 (by decide) (Nat.le_of_ble_eq_true rfl) ?_
      refine r_if_eq (pc := 32) 38 C dX1_matchBy_32 (by decide) (fun c32 => ?_) (fun c32 => ?_)
      · refine r_iload_n (pc := 38) C dX1_matchBy_38 rfl ?_
        refine r_iconst (pc := 39) (1) C dX1_matchBy_39 (by decide) ?_
        refine r_iload (pc := 40) C dX1_matchBy_40 rfl ?_
        refine r_ishl (pc := 42) C dX1_matchBy_42 ?_
        refine r_ior (pc := 43) C dX1_matchBy_43 ?_
        refine r_istore_n (pc := 44) C dX1_matchBy_44 (by decide) ?_
        refine r_iload (pc := 45) C dX1_matchBy_45 rfl ?_
        refine r_bipush (pc := 47) (10) C dX1_matchBy_47 (by decide) ?_
        refine r_aload_n (pc := 49) C dX1_matchBy_49 rfl ?_
        refine r_iload (pc := 50) C dX1_matchBy_50 rfl ?_
        refine r_iload_n (pc := 52) C dX1_matchBy_52 rfl ?_
        refine r_aload_n (pc := 53) C dX1_matchBy_53 rfl ?_
        refine M_g11 (pc := 54) C dX1_matchBy_54 ?_
        refine r_iconst (pc := 57) (3) C dX1_matchBy_57 (by decide) ?_
        refine r_iload (pc := 58) C dX1_matchBy_58 rfl ?_
        refine r_imul (pc := 60) C dX1_matchBy_60 ?_
        refine r_iload (pc := 61) C dX1_matchBy_61 rfl ?_
        refine r_iadd (pc := 63) C dX1_matchBy_63 ?_
        refine M_l11 (pc := 64) C dX1_matchBy_64 (vin9d hi3) ?_
        refine M_cQi (pc := 65) C (cM_tenthsBy B a _ _ _ _ (by assumption) (by assumption) (by assumption)) q927 mX1_tenthsBy rfl dX1_matchBy_65 (by decide) (Nat.le_of_ble_eq_true rfl) ?_
        refine r_isub (pc := 68) C dX1_matchBy_68 ?_
        refine r_aload_n (pc := 69) C dX1_matchBy_69 rfl ?_
        refine M_g4 (pc := 70) C dX1_matchBy_70 ?_
        refine r_iload_n (pc := 73) C dX1_matchBy_73 rfl ?_
        refine M_l4 (pc := 74) C dX1_matchBy_74 (by assumption) ?_
        refine r_imul (pc := 75) C dX1_matchBy_75 ?_
        refine r_iadd (pc := 76) C dX1_matchBy_76 ?_
        refine r_istore (pc := 77) C dX1_matchBy_77 (by decide) ?_
        refine r_iinc (pc := 79) _ C dX1_matchBy_79 rfl (nI_1 i) (by decide) ?_
        refine r_goto (pc := 82) 8 C dX1_matchBy_82 (by decide) ?_
        refine V_sub ?_ (K8 (lt_s hd c32))
        intro q1 hq1
        simp only [lset, lset2, lvo, lkill, List.mem_cons, List.not_mem_nil, or_false] at hq1 ⊢
        rcases hq1 with h | h | h | h | h | h <;> simp [h, unX, unF, nf, m_ms]
      · refine r_ldc (pc := 35) C dX1_matchBy_35 q987 ?_
        exact r_iret (pc := 37) C hR dX1_matchBy_37 (by decide) (by decide) ⟨(if_neg (fun h => c32 (h i hi))).symm, rfl⟩
  · refine r_iload (pc := 8) C dX1_matchBy_8 rfl ?_
    refine r_aload_n (pc := 10) C dX1_matchBy_10 rfl ?_
    refine M_g6 (pc := 11) C dX1_matchBy_11 ?_
    refine r_icmp_ge (pc := 14) 85 C dX1_matchBy_14 (by decide) (fun c14 => ?_) (fun c14 => ?_)
    · refine r_iload (pc := 85) C dX1_matchBy_85 rfl ?_
      exact r_iret (pc := 87) C hR dX1_matchBy_87 (by decide) (by decide) ⟨(if_pos hd).symm, rfl⟩
    · exact absurd (by rw [em]; exact Int32.le_refl _) c14

set_option maxHeartbeats 4000000 in
theorem cM_matchNow {G : Gx} (B : Base G) (a : Nat → Nat) (T : StM) (l w : Int32) (hI : IM T) (hl : vp_in l 5) (hw : ¬ jin w 0 1 = 0 ∨ ¬ jin w 10 12 = 0) : Ci G yX1_matchNow cX1_matchNow 8 .int (rmD 3) (wM G a) T [.ref (a 0), .int l, .int w] (fun r S' => r = m_matchNow T l w ∧ S' = T) := by
  refine Ci.of B [some (.ref (a 0)), some (.int l), some (.int w), none, none, none, none, none] (by decide) rfl (Nat.le_of_ble_eq_true rfl) (fun E C hR => ?_)
  have C : CxOk E RX1 cX1_matchNow 8 G (rmD 3) := C
  have em : T.1 6 = nI (mm T) := hI.many.1
  have hm3 : mm T ≤ 3 := hI.many.2
  have h27 := pw27 hm3
  refine r_iconst (pc := 0) (1) C dX1_matchNow_0 (by decide) ?_
  refine r_istore_n (pc := 1) C dX1_matchNow_1 (by decide) ?_
  refine r_iconst (pc := 2) (0) C dX1_matchNow_2 (by decide) ?_
  refine r_istore (pc := 3) C dX1_matchNow_3 (by decide) ?_
  refine V_cnt (P := fun i => V E 8 0 0 (wM G a T) 5 [some (.ref (a 0)), some (.int l), some (.int w), some (.int (nI (3 ^ i))), some (.int (nI i)), none, none, none] []) (mm T) (fun i hi K5 => ?_) ?_
  · refine r_iload (pc := 5) C dX1_matchNow_5 rfl ?_
    refine r_aload_n (pc := 7) C dX1_matchNow_7 rfl ?_
    refine M_g6 (pc := 8) C dX1_matchNow_8 ?_
    refine r_icmp_ge (pc := 11) 24 C dX1_matchNow_11 (by decide) (fun c11 => ?_) (fun c11 => ?_)
    · rw [em] at c11
      exact absurd c11 (nI_ge hi (by omega))
    · refine r_iload_n (pc := 14) C dX1_matchNow_14 rfl ?_
      refine r_iconst (pc := 15) (3) C dX1_matchNow_15 (by decide) ?_
      refine r_imul (pc := 16) C dX1_matchNow_16 ?_
      rw [show nI (3 ^ i) * 3 = nI (3 ^ (i + 1)) from by rw [show (3 : Int32) = nI 3 from rfl, pk_mul, Nat.pow_succ]]
      refine r_istore_n (pc := 17) C dX1_matchNow_17 (by decide) ?_
      refine r_iinc (pc := 18) _ C dX1_matchNow_18 rfl (nI_1 i) (by decide) ?_
      refine r_goto (pc := 21) 5 C dX1_matchNow_21 (by decide) ?_
      exact K5
  · refine r_iload (pc := 5) C dX1_matchNow_5 rfl ?_
    refine r_aload_n (pc := 7) C dX1_matchNow_7 rfl ?_
    refine M_g6 (pc := 8) C dX1_matchNow_8 ?_
    refine r_icmp_ge (pc := 11) 24 C dX1_matchNow_11 (by decide) (fun c11 => ?_) (fun c11 => ?_)
    · refine r_iconst (pc := 24) (-1) C dX1_matchNow_24 (by decide) ?_
      refine r_istore (pc := 25) C dX1_matchNow_25 (by decide) ?_
      refine r_ldc (pc := 27) C dX1_matchNow_27 q987 ?_
      refine r_istore (pc := 29) C dX1_matchNow_29 (by decide) ?_
      refine r_iconst (pc := 31) (0) C dX1_matchNow_31 (by decide) ?_
      refine r_istore (pc := 32) C dX1_matchNow_32 (by decide) ?_
      refine V_for (P := fun i q => V E 8 0 0 (wM G a T) 34 [some (.ref (a 0)), some (.int l), some (.int w), some (.int (nI (3 ^ mm T))), some (.int q.1), some (.int q.2), some (.int (nI i)), none] []) (m_nwF T l) (-1, 268435456) (3 ^ mm T) (fun i hi K34 => ?_) ?_
      · refine r_iload (pc := 34) C dX1_matchNow_34 rfl ?_
        refine r_iload_n (pc := 36) C dX1_matchNow_36 rfl ?_
        refine r_icmp_ge (pc := 37) 87 C dX1_matchNow_37 (by decide) (fun c37 => ?_) (fun c37 => ?_)
        · exact absurd c37 (nI_ge hi (by omega))
        · refine r_aload_n (pc := 40) C dX1_matchNow_40 rfl ?_
          refine r_iload_n (pc := 41) C dX1_matchNow_41 rfl ?_
          refine r_iload (pc := 42) C dX1_matchNow_42 rfl ?_
          refine M_cQi (pc := 44) C (cM_matchBy B a _ _ _ (by assumption) (by assumption) (by omega)) q988 mX1_matchBy rfl dX1_matchNow_44 (by decide) (Nat.le_of_ble_eq_true rfl) ?_
          refine r_istore (pc := 47) C dX1_matchNow_47 (by decide) ?_
          refine r_iload (pc := 49) C dX1_matchNow_49 rfl ?_
          refine r_iload (pc := 51) C dX1_matchNow_51 rfl ?_
          refine r_icmp_ge (pc := 53) 61 C dX1_matchNow_53 (by decide) (fun c53 => ?_) (fun c53 => ?_)
          · refine r_iload (pc := 61) C dX1_matchNow_61 rfl ?_
            refine r_istore (pc := 63) C dX1_matchNow_63 (by decide) ?_
            refine r_iload (pc := 65) C dX1_matchNow_65 rfl ?_
            refine r_iload (pc := 67) C dX1_matchNow_67 rfl ?_
            refine r_icmp_ge (pc := 69) 77 C dX1_matchNow_69 (by decide) (fun c69 => ?_) (fun c69 => ?_)
            · refine r_iload (pc := 77) C dX1_matchNow_77 rfl ?_
              refine r_istore (pc := 79) C dX1_matchNow_79 (by decide) ?_
              refine r_iinc (pc := 81) _ C dX1_matchNow_81 rfl (nI_1 i) (by decide) ?_
              refine r_goto (pc := 84) 34 C dX1_matchNow_84 (by decide) ?_
              rw [show nf (m_nwF T l) (i + 1) (-1, 268435456) = _ from if_pos c53] at K34
              refine V_sub ?_ K34
              intro q1 hq1
              simp only [lset, lset2, lvo, lkill, List.mem_cons, List.not_mem_nil, or_false] at hq1 ⊢
              rcases hq1 with h | h | h | h | h | h | h <;> simp [h]
            · refine r_iload (pc := 72) C dX1_matchNow_72 rfl ?_
              refine r_goto (pc := 74) 79 C dX1_matchNow_74 (by decide) ?_
              refine r_istore (pc := 79) C dX1_matchNow_79 (by decide) ?_
              refine r_iinc (pc := 81) _ C dX1_matchNow_81 rfl (nI_1 i) (by decide) ?_
              refine r_goto (pc := 84) 34 C dX1_matchNow_84 (by decide) ?_
              exact absurd c53 c69
          · refine r_iload (pc := 56) C dX1_matchNow_56 rfl ?_
            refine r_goto (pc := 58) 63 C dX1_matchNow_58 (by decide) ?_
            refine r_istore (pc := 63) C dX1_matchNow_63 (by decide) ?_
            refine r_iload (pc := 65) C dX1_matchNow_65 rfl ?_
            refine r_iload (pc := 67) C dX1_matchNow_67 rfl ?_
            refine r_icmp_ge (pc := 69) 77 C dX1_matchNow_69 (by decide) (fun c69 => ?_) (fun c69 => ?_)
            · refine r_iload (pc := 77) C dX1_matchNow_77 rfl ?_
              refine r_istore (pc := 79) C dX1_matchNow_79 (by decide) ?_
              refine r_iinc (pc := 81) _ C dX1_matchNow_81 rfl (nI_1 i) (by decide) ?_
              refine r_goto (pc := 84) 34 C dX1_matchNow_84 (by decide) ?_
              exact absurd c69 c53
            · refine r_iload (pc := 72) C dX1_matchNow_72 rfl ?_
              refine r_goto (pc := 74) 79 C dX1_matchNow_74 (by decide) ?_
              refine r_istore (pc := 79) C dX1_matchNow_79 (by decide) ?_
              refine r_iinc (pc := 81) _ C dX1_matchNow_81 rfl (nI_1 i) (by decide) ?_
              refine r_goto (pc := 84) 34 C dX1_matchNow_84 (by decide) ?_
              rw [show nf (m_nwF T l) (i + 1) (-1, 268435456) = _ from if_neg c53] at K34
              refine V_sub ?_ K34
              intro q1 hq1
              simp only [lset, lset2, lvo, lkill, List.mem_cons, List.not_mem_nil, or_false] at hq1 ⊢
              rcases hq1 with h | h | h | h | h | h | h <;> simp [h]
      · rw [show nf (m_nwF T l) (3 ^ mm T) (-1, 268435456) = m_nw T l from rfl]
        obtain ⟨hM1, hM2⟩ := nw_rg hI hl
        have hw3 := hM1.2
        have hb3 := hM2.2
        refine r_iload (pc := 34) C dX1_matchNow_34 rfl ?_
        refine r_iload_n (pc := 36) C dX1_matchNow_36 rfl ?_
        refine r_icmp_ge (pc := 37) 87 C dX1_matchNow_37 (by decide) (fun c37 => ?_) (fun c37 => ?_)
        · refine r_iload_n (pc := 87) C dX1_matchNow_87 rfl ?_
          refine r_iconst (pc := 88) (2) C dX1_matchNow_88 (by decide) ?_
          refine r_icmp_ge (pc := 89) 104 C dX1_matchNow_89 (by decide) (fun c89 => ?_) (fun c89 => ?_)
          · refine r_aload_n (pc := 104) C dX1_matchNow_104 rfl ?_
            refine r_iload_n (pc := 105) C dX1_matchNow_105 rfl ?_
            refine r_bipush (pc := 106) (10) C dX1_matchNow_106 (by decide) ?_
            refine r_isub (pc := 108) C dX1_matchNow_108 ?_
            refine M_cQi (pc := 109) C (cM_isPrince B a _ _) q892 mX1_isPrince rfl dX1_matchNow_109 (by decide) (Nat.le_of_ble_eq_true rfl) ?_
            refine r_if_eq (pc := 112) 128 C dX1_matchNow_112 (by decide) (fun c112 => ?_) (fun c112 => ?_)
            · refine r_iconst (pc := 128) (-1) C dX1_matchNow_128 (by decide) ?_
              exact r_iret (pc := 129) C hR dX1_matchNow_129 (by decide) (by decide) ⟨by rw [m_matchNow, if_pos c89, if_pos c112], rfl⟩
            · obtain ⟨ep, hp⟩ := jin_cnt hI.many (by decide) c112
              refine r_aload_n (pc := 115) C dX1_matchNow_115 rfl ?_
              refine r_iload (pc := 116) C dX1_matchNow_116 rfl ?_
              refine r_iload_n (pc := 118) C dX1_matchNow_118 rfl ?_
              refine r_bipush (pc := 119) (10) C dX1_matchNow_119 (by decide) ?_
              refine r_isub (pc := 121) C dX1_matchNow_121 ?_
              rw [ep, hM2.1]
              refine M_cQi (pc := 122) C (cM_boyBy B a _ (m_nw T l).1.toNatClampNeg (w - 10).toNatClampNeg (by omega) hp hI.many) q992 mX1_boyBy rfl dX1_matchNow_122 (by decide) (Nat.le_of_ble_eq_true rfl) ?_
              refine r_goto (pc := 125) 129 C dX1_matchNow_125 (by decide) ?_
              exact r_iret (pc := 129) C hR dX1_matchNow_129 (by decide) (by decide) ⟨by rw [m_matchNow, if_pos c89, if_neg c112], rfl⟩
          · refine r_iload (pc := 92) C dX1_matchNow_92 rfl ?_
            refine r_i2l (pc := 94) C dX1_matchNow_94 ?_
            rw [hM1.1, nI_l (by omega)]
            refine r_ldc2 (pc := 95) C dX1_matchNow_95 q954 ?_
            refine r_iload_n (pc := 98) C dX1_matchNow_98 rfl ?_
            refine S_cQl (pc := 99) C (cM_lowest B _ 10 _ (by omega) (by decide) (by decide)) q975 mX1_lowest rfl dX1_matchNow_99 (by decide) (Nat.le_of_ble_eq_true rfl) ?_
            refine r_l2i (pc := 102) C dX1_matchNow_102 ?_
            exact r_iret (pc := 103) C hR dX1_matchNow_103 (by decide) (by decide) ⟨by rw [m_matchNow, if_neg c89], rfl⟩
        · exact absurd (Int32.le_refl _) c37
    · exact absurd (by rw [em]; exact Int32.le_refl _) c11

set_option maxHeartbeats 4000000 in
theorem cM_match {G : Gx} (B : Base G) (a : Nat → Nat) (T : StM) (l w : Int32) (hI : IM T) : Ci G yX1_match cX1_match 3 .int (rmD 4) (wM G a) T [.ref (a 0), .int l, .int w] (fun r S' => r = m_match T l w ∧ S' = T) := by
  refine Ci.of B [some (.ref (a 0)), some (.int l), some (.int w)] (by decide) rfl (Nat.le_of_ble_eq_true rfl) (fun E C hR => ?_)
  have C : CxOk E RX1 cX1_match 3 G (rmD 4) := C
  refine r_aload_n (pc := 0) C dX1_match_0 rfl ?_
  refine r_iload_n (pc := 1) C dX1_match_1 rfl ?_
  refine M_cQi (pc := 2) C (cM_isLesson B a _ _) q861 mX1_isLesson rfl dX1_match_2 (by decide) (Nat.le_of_ble_eq_true rfl) ?_
  refine r_if_ne (pc := 5) 11 C dX1_match_5 (by decide) (fun c5 => ?_) (fun c5 => ?_)
  · have hl := hI.ls c5
    refine r_iload_n (pc := 11) C dX1_match_11 rfl ?_
    refine r_iconst (pc := 12) (0) C dX1_match_12 (by decide) ?_
    refine r_iconst (pc := 13) (1) C dX1_match_13 (by decide) ?_
    refine S_cQi (pc := 14) C (cM_within B _ _ _) q826 mX1_within rfl dX1_match_14 (by decide) (Nat.le_of_ble_eq_true rfl) ?_
    refine r_if_ne (pc := 17) 31 C dX1_match_17 (by decide) (fun c17 => ?_) (fun c17 => ?_)
    · have hw : ¬ jin w 0 1 = 0 ∨ ¬ jin w 10 12 = 0 := Or.inl c17
      refine r_aload_n (pc := 31) C dX1_match_31 rfl ?_
      refine r_iload_n (pc := 32) C dX1_match_32 rfl ?_
      refine r_iload_n (pc := 33) C dX1_match_33 rfl ?_
      refine M_cQi (pc := 34) C (cM_matchNow B a _ _ _ (by assumption) (by assumption) (by assumption)) q983 mX1_matchNow rfl dX1_match_34 (by decide) (Nat.le_of_ble_eq_true rfl) ?_
      refine r_goto (pc := 37) 42 C dX1_match_37 (by decide) ?_
      exact r_iret (pc := 42) C hR dX1_match_42 (by decide) (by decide) ⟨by rw [m_match, if_neg c5, if_neg c17], rfl⟩
    · refine r_iload_n (pc := 20) C dX1_match_20 rfl ?_
      refine r_bipush (pc := 21) (10) C dX1_match_21 (by decide) ?_
      refine r_bipush (pc := 23) (12) C dX1_match_23 (by decide) ?_
      refine S_cQi (pc := 25) C (cM_within B _ _ _) q826 mX1_within rfl dX1_match_25 (by decide) (Nat.le_of_ble_eq_true rfl) ?_
      refine r_if_eq (pc := 28) 40 C dX1_match_28 (by decide) (fun c28 => ?_) (fun c28 => ?_)
      · refine r_bipush (pc := 40) (-102) C dX1_match_40 (by decide) ?_
        exact r_iret (pc := 42) C hR dX1_match_42 (by decide) (by decide) ⟨by rw [m_match, if_neg c5, if_pos c17, if_pos c28], rfl⟩
      · have hw : ¬ jin w 0 1 = 0 ∨ ¬ jin w 10 12 = 0 := Or.inr c28
        refine r_aload_n (pc := 31) C dX1_match_31 rfl ?_
        refine r_iload_n (pc := 32) C dX1_match_32 rfl ?_
        refine r_iload_n (pc := 33) C dX1_match_33 rfl ?_
        refine M_cQi (pc := 34) C (cM_matchNow B a _ _ _ (by assumption) (by assumption) (by assumption)) q983 mX1_matchNow rfl dX1_match_34 (by decide) (Nat.le_of_ble_eq_true rfl) ?_
        refine r_goto (pc := 37) 42 C dX1_match_37 (by decide) ?_
        exact r_iret (pc := 42) C hR dX1_match_42 (by decide) (by decide) ⟨by rw [m_match, if_neg c5, if_pos c17, if_neg c28], rfl⟩
  · refine r_bipush (pc := 8) (-101) C dX1_match_8 (by decide) ?_
    exact r_iret (pc := 10) C hR dX1_match_10 (by decide) (by decide) ⟨by rw [m_match, if_pos c5], rfl⟩

