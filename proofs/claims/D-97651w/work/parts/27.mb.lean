
set_option maxRecDepth 100000
def m_szf (x : Int32) (i : Nat) (z : Int32) : Int32 := z + ((x >>> (nI i &&& 31)) &&& 1)
def m_size (x : Int32) : Int32 := nf (m_szf x) 5 0
def m_hear (T : StM) (p l b : Int32) : Int32 × StM := if m_isPrince T p = 0 then (-101, T) else if m_isLesson T l = 0 then (-101, T) else if T.1 12 = 6 then (-104, T) else (T.1 12 + 1, setMi (setMa (setMa (setMa T 13 (upd (mar T 13) (T.1 12).toNatClampNeg p)) 14 (upd (mar T 14) (T.1 12).toNatClampNeg l)) 15 (upd (mar T 15) (T.1 12).toNatClampNeg (if b = 0 then 0 else 1))) 12 (T.1 12 + 1))
def m_cbt (T : StM) (p f : Int32) (i : Nat) : Int32 := if mar T 13 i = p then m_tenthsBy T p (mar T 14 i) f else 5
def m_cb (T : StM) (p f : Int32) (i : Nat) (z : Int32) : Int32 := if z = 0 then 0 else if mar T 15 i = 1 then (if m_cbt T p f i = 0 then 0 else 1) else (if m_cbt T p f i = 10 then 0 else 1)
def m_couldBe (T : StM) (p f : Int32) : Int32 := nf (m_cb T p f) (T.1 12).toNatClampNeg 1
def m_fb (T : StM) (p : Int32) (i : Nat) (z : Int32) : Int32 := z ||| (if m_couldBe T p (nI i) = 0 then 0 else (1 : Int32) <<< (nI i &&& 31))
def m_fondnessNow (T : StM) (p : Int32) : Int32 := nf (m_fb T p) 10 0
def m_fondness (T : StM) (p : Int32) : Int32 := if m_isPrince T p = 0 then -101 else m_fondnessNow T p
def drawL (d : Int64) : Int64 := 1103515245 * d + 12345 &&& 2147483647
def jremL (x y : Int64) : Int64 := x - x / y * y
def m_drawS (T : StM) : StM := setMl T 26 (drawL (T.2.1 26))
def m_drawR (T : StM) (m : Int32) : Int32 := (jremL (drawL (T.2.1 26) / 65536) m.toInt64).toInt32
def m_goOne (T : StM) (p l : Int32) : Int32 × StM := if m_tenthsNow (m_drawS T) p l ≤ m_drawR T 10 then (mar T 4 l.toNatClampNeg, m_fail (m_drawS T) p l) else (0, setMa (m_drawS T) 10 (upd (mar T 10) p.toNatClampNeg (mar T 10 p.toNatClampNeg ||| ((1 : Int32) <<< (l &&& 31)))))
def m_la (T : StM) (i : Nat) (z : Int32) : Int32 := z + m_size (mar T 10 i)
def m_learntAll (T : StM) : Int32 := nf (m_la T) (T.1 6).toNatClampNeg 0
def m_stripesAll (T : StM) : Int32 := mar T 5 0 + mar T 5 1 + mar T 5 2
def m_count (T : StM) (w : Int32) : Int32 := if w = 0 then T.1 1 else if w = 1 then T.1 2 else if w = 2 then T.1 6 else if w = 3 then m_stripesAll T else if w = 4 then m_learntAll T else if w = 5 then T.1 12 else if w = 6 then T.1 17 else if w = 7 then T.1 0 else if w = 8 then T.1 16 else -102
def m_mix (T : StM) (v : Int64) : StM := setMl T 39 (31 * T.2.1 39 + v)
theorem m_cb_01 (T : StM) (p f : Int32) (n : Nat) : nf (m_cb T p f) n 1 = 0 ∨ nf (m_cb T p f) n 1 = 1 := by
  cases n with
  | zero => exact Or.inr rfl
  | succ n =>
    show m_cb T p f n _ = 0 ∨ m_cb T p f n _ = 1
    unfold m_cb
    split
    · exact Or.inl rfl
    · split <;> split <;> simp
theorem R55 : Rg 5 5 := ⟨rfl, Nat.le_refl _⟩
theorem toL_ne {m : Int32} (h : ¬ m = 0) : ¬ m.toInt64 = 0 := fun e => h (by
  have h1 := congrArg Int64.toInt e
  rw [Int32.toInt_toInt64] at h1
  exact Int32.toInt_inj.mp h1)

set_option maxHeartbeats 4000000 in
theorem cM_size {G : Gx} (B : Base G) (x : Int32) : Ci G yX1_size cX1_size 3 .int (rmD 0) (fun _ : Unit => []) () [.int x] (fun r _ => r = m_size x) := by
  refine Ci.of B [some (.int x), none, none] (by decide) rfl (Nat.le_of_ble_eq_true rfl) (fun E C hR => ?_)
  have C : CxOk E RX1 cX1_size 3 G (rmD 0) := C
  refine r_iconst (pc := 0) (0) C dX1_size_0 (by decide) ?_
  refine r_istore_n (pc := 1) C dX1_size_1 (by decide) ?_
  refine r_iconst (pc := 2) (0) C dX1_size_2 (by decide) ?_
  refine r_istore_n (pc := 3) C dX1_size_3 (by decide) ?_
  refine V_for (P := fun i z => V E 3 0 0 [] 4 [some (.int x), some (.int z), some (.int (nI i))] []) (m_szf x) 0 5 (fun i hi K4 => ?_) ?_
  · refine r_iload_n (pc := 4) C dX1_size_4 rfl ?_
    refine r_iconst (pc := 5) (5) C dX1_size_5 (by decide) ?_
    refine r_icmp_ge (pc := 6) 23 C dX1_size_6 (by decide) (fun c6 => ?_) (fun c6 => ?_)
    · exact absurd c6 (lp_in R55 (by decide) hi)
    · refine r_iload_n (pc := 9) C dX1_size_9 rfl ?_
      refine r_iload_n (pc := 10) C dX1_size_10 rfl ?_
      refine r_iload_n (pc := 11) C dX1_size_11 rfl ?_
      refine r_ishr (pc := 12) C dX1_size_12 ?_
      refine r_iconst (pc := 13) (1) C dX1_size_13 (by decide) ?_
      refine r_iand (pc := 14) C dX1_size_14 ?_
      refine r_iadd (pc := 15) C dX1_size_15 ?_
      refine r_istore_n (pc := 16) C dX1_size_16 (by decide) ?_
      refine r_iinc (pc := 17) _ C dX1_size_17 rfl (nI_1 i) (by decide) ?_
      refine r_goto (pc := 20) 4 C dX1_size_20 (by decide) ?_
      exact K4
  · refine r_iload_n (pc := 4) C dX1_size_4 rfl ?_
    refine r_iconst (pc := 5) (5) C dX1_size_5 (by decide) ?_
    refine r_icmp_ge (pc := 6) 23 C dX1_size_6 (by decide) (fun c6 => ?_) (fun c6 => ?_)
    · refine r_iload_n (pc := 23) C dX1_size_23 rfl ?_
      exact r_iret (pc := 24) (S := ()) C hR dX1_size_24 (by decide) (by decide) rfl
    · exact absurd (lp_out R55 (by decide)) c6

set_option maxHeartbeats 4000000 in
theorem cM_hear {G : Gx} (B : Base G) (a : Nat → Nat) (T : StM) (p l b : Int32) (hI : IM T) : Ci G yX1_hear cX1_hear 4 .int (rmD 2) (wM G a) T [.ref (a 0), .int p, .int l, .int b] (fun r S' => r = (m_hear T p l b).1 ∧ S' = (m_hear T p l b).2) := by
  refine Ci.of B [some (.ref (a 0)), some (.int p), some (.int l), some (.int b)] (by decide) rfl (Nat.le_of_ble_eq_true rfl) (fun E C hR => ?_)
  have C : CxOk E RX1 cX1_hear 4 G (rmD 2) := C
  refine r_aload_n (pc := 0) C dX1_hear_0 rfl ?_
  refine r_iload_n (pc := 1) C dX1_hear_1 rfl ?_
  refine M_cQi (pc := 2) C (cM_isPrince B a _ _) q892 mX1_isPrince rfl dX1_hear_2 (by decide) (Nat.le_of_ble_eq_true rfl) ?_
  refine r_if_eq (pc := 5) 16 C dX1_hear_5 (by decide) (fun c5 => ?_) (fun c5 => ?_)
  · refine r_bipush (pc := 16) (-101) C dX1_hear_16 (by decide) ?_
    exact r_iret (pc := 18) C hR dX1_hear_18 (by decide) (by decide) ⟨by (rw [m_hear, if_pos c5] <;> rfl), by (rw [m_hear, if_pos c5] <;> rfl)⟩
  · refine r_aload_n (pc := 8) C dX1_hear_8 rfl ?_
    refine r_iload_n (pc := 9) C dX1_hear_9 rfl ?_
    refine M_cQi (pc := 10) C (cM_isLesson B a _ _) q861 mX1_isLesson rfl dX1_hear_10 (by decide) (Nat.le_of_ble_eq_true rfl) ?_
    refine r_if_ne (pc := 13) 19 C dX1_hear_13 (by decide) (fun c13 => ?_) (fun c13 => ?_)
    · refine r_aload_n (pc := 19) C dX1_hear_19 rfl ?_
      refine M_g12 (pc := 20) C dX1_hear_20 ?_
      refine r_bipush (pc := 23) (6) C dX1_hear_23 (by decide) ?_
      refine r_icmp_ne (pc := 25) 31 C dX1_hear_25 (by decide) (fun c25 => ?_) (fun c25 => ?_)
      · refine r_aload_n (pc := 31) C dX1_hear_31 rfl ?_
        refine M_g13 (pc := 32) C dX1_hear_32 ?_
        refine r_aload_n (pc := 35) C dX1_hear_35 rfl ?_
        refine M_g12 (pc := 36) C dX1_hear_36 ?_
        refine r_iload_n (pc := 39) C dX1_hear_39 rfl ?_
        refine M_s13 (pc := 40) C dX1_hear_40 (hI.heard.in_ne (by decide) c25) ?_
        refine r_aload_n (pc := 41) C dX1_hear_41 rfl ?_
        refine M_g14 (pc := 42) C dX1_hear_42 ?_
        refine r_aload_n (pc := 45) C dX1_hear_45 rfl ?_
        refine M_g12 (pc := 46) C dX1_hear_46 ?_
        refine r_iload_n (pc := 49) C dX1_hear_49 rfl ?_
        refine M_s14 (pc := 50) C dX1_hear_50 (hI.heard.in_ne (by decide) c25) ?_
        refine r_aload_n (pc := 51) C dX1_hear_51 rfl ?_
        refine M_g15 (pc := 52) C dX1_hear_52 ?_
        refine r_aload_n (pc := 55) C dX1_hear_55 rfl ?_
        refine M_g12 (pc := 56) C dX1_hear_56 ?_
        refine r_iload_n (pc := 59) C dX1_hear_59 rfl ?_
        refine r_if_eq (pc := 60) 67 C dX1_hear_60 (by decide) (fun c60 => ?_) (fun c60 => ?_)
        · refine r_iconst (pc := 67) (0) C dX1_hear_67 (by decide) ?_
          refine M_s15 (pc := 68) C dX1_hear_68 (hI.heard.in_ne (by decide) c25) ?_
          refine r_aload_n (pc := 69) C dX1_hear_69 rfl ?_
          refine r_dup (pc := 70) C dX1_hear_70 rfl ?_
          refine M_g12 (pc := 71) C dX1_hear_71 ?_
          refine r_iconst (pc := 74) (1) C dX1_hear_74 (by decide) ?_
          refine r_iadd (pc := 75) C dX1_hear_75 ?_
          refine M_p12 (pc := 76) C dX1_hear_76 ?_
          refine r_aload_n (pc := 79) C dX1_hear_79 rfl ?_
          refine M_g12 (pc := 80) C dX1_hear_80 ?_
          exact r_iret (pc := 83) C hR dX1_hear_83 (by decide) (by decide) ⟨by (rw [m_hear, if_neg c5, if_neg c13, if_neg c25] <;> rfl), by (rw [m_hear, if_neg c5, if_neg c13, if_neg c25, if_pos c60] <;> rfl)⟩
        · refine r_iconst (pc := 63) (1) C dX1_hear_63 (by decide) ?_
          refine r_goto (pc := 64) 68 C dX1_hear_64 (by decide) ?_
          refine M_s15 (pc := 68) C dX1_hear_68 (hI.heard.in_ne (by decide) c25) ?_
          refine r_aload_n (pc := 69) C dX1_hear_69 rfl ?_
          refine r_dup (pc := 70) C dX1_hear_70 rfl ?_
          refine M_g12 (pc := 71) C dX1_hear_71 ?_
          refine r_iconst (pc := 74) (1) C dX1_hear_74 (by decide) ?_
          refine r_iadd (pc := 75) C dX1_hear_75 ?_
          refine M_p12 (pc := 76) C dX1_hear_76 ?_
          refine r_aload_n (pc := 79) C dX1_hear_79 rfl ?_
          refine M_g12 (pc := 80) C dX1_hear_80 ?_
          exact r_iret (pc := 83) C hR dX1_hear_83 (by decide) (by decide) ⟨by (rw [m_hear, if_neg c5, if_neg c13, if_neg c25] <;> rfl), by (rw [m_hear, if_neg c5, if_neg c13, if_neg c25, if_neg c60] <;> rfl)⟩
      · refine r_bipush (pc := 28) (-104) C dX1_hear_28 (by decide) ?_
        exact r_iret (pc := 30) C hR dX1_hear_30 (by decide) (by decide) ⟨by (rw [m_hear, if_neg c5, if_neg c13, if_pos c25] <;> rfl), by (rw [m_hear, if_neg c5, if_neg c13, if_pos c25] <;> rfl)⟩
    · refine r_bipush (pc := 16) (-101) C dX1_hear_16 (by decide) ?_
      exact r_iret (pc := 18) C hR dX1_hear_18 (by decide) (by decide) ⟨by (rw [m_hear, if_neg c5, if_pos c13] <;> rfl), by (rw [m_hear, if_neg c5, if_pos c13] <;> rfl)⟩

set_option maxHeartbeats 4000000 in
theorem cM_forget {G : Gx} (B : Base G) (a : Nat → Nat) (T : StM)  : Ci G yX1_forget cX1_forget 2 .int (rmD 0) (wM G a) T [.ref (a 0)] (fun r S' => r = T.1 12 ∧ S' = setMi T 12 0) := by
  refine Ci.of B [some (.ref (a 0)), none] (by decide) rfl (Nat.le_of_ble_eq_true rfl) (fun E C hR => ?_)
  have C : CxOk E RX1 cX1_forget 2 G (rmD 0) := C
  refine r_aload_n (pc := 0) C dX1_forget_0 rfl ?_
  refine M_g12 (pc := 1) C dX1_forget_1 ?_
  refine r_istore_n (pc := 4) C dX1_forget_4 (by decide) ?_
  refine r_aload_n (pc := 5) C dX1_forget_5 rfl ?_
  refine r_iconst (pc := 6) (0) C dX1_forget_6 (by decide) ?_
  refine M_p12 (pc := 7) C dX1_forget_7 ?_
  refine r_iload_n (pc := 10) C dX1_forget_10 rfl ?_
  exact r_iret (pc := 11) C hR dX1_forget_11 (by decide) (by decide) ⟨rfl, rfl⟩

set_option maxHeartbeats 4000000 in
theorem cM_couldBe {G : Gx} (B : Base G) (a : Nat → Nat) (T : StM) (p f : Int32) (hI : IM T) (hp : vp_in p 3) : Ci G yX1_couldBe cX1_couldBe 6 .boolean (rmD 2) (wM G a) T [.ref (a 0), .int p, .int f] (fun r S' => r = m_couldBe T p f ∧ S' = T) := by
  refine Ci.of B [some (.ref (a 0)), some (.int p), some (.int f), none, none, none] (by decide) rfl (Nat.le_of_ble_eq_true rfl) (fun E C hR => ?_)
  have C : CxOk E RX1 cX1_couldBe 6 G (rmD 2) := C
  refine r_iconst (pc := 0) (1) C dX1_couldBe_0 (by decide) ?_
  refine r_istore_n (pc := 1) C dX1_couldBe_1 (by decide) ?_
  refine r_iconst (pc := 2) (0) C dX1_couldBe_2 (by decide) ?_
  refine r_istore (pc := 3) C dX1_couldBe_3 (by decide) ?_
  refine V_for (P := fun i z => V E 6 0 0 (wM G a T) 5 [some (.ref (a 0)), some (.int p), some (.int f), some (.int z), some (.int (nI i)), none] []) (m_cb T p f) 1 (T.1 12).toNatClampNeg (fun i hi K5 => ?_) ?_
  · have hi6 : i < 6 := Nat.lt_of_lt_of_le hi hI.heard.2
    have hv6 : vp_in (nI i) 6 := vp_in_nI hi6 (by decide)
    have hl5 : vp_in (mar T 14 i) 5 := (hI.heL hi6).in (by decide) (by decide)
    refine r_iload (pc := 5) C dX1_couldBe_5 rfl ?_
    refine r_aload_n (pc := 7) C dX1_couldBe_7 rfl ?_
    refine M_g12 (pc := 8) C dX1_couldBe_8 ?_
    refine r_icmp_ge (pc := 11) 82 C dX1_couldBe_11 (by decide) (fun c11 => ?_) (fun c11 => ?_)
    · exact absurd c11 (lp_in hI.heard (by decide) hi)
    · refine r_aload_n (pc := 14) C dX1_couldBe_14 rfl ?_
      refine M_g13 (pc := 15) C dX1_couldBe_15 ?_
      refine r_iload (pc := 18) C dX1_couldBe_18 rfl ?_
      refine M_l13 (pc := 20) C dX1_couldBe_20 (by assumption) ?_
      rw [nI_clamp (Nat.lt_trans hi6 (by decide))]
      refine r_iload_n (pc := 21) C dX1_couldBe_21 rfl ?_
      refine r_icmp_ne (pc := 22) 41 C dX1_couldBe_22 (by decide) (fun c22 => ?_) (fun c22 => ?_)
      · refine r_iconst (pc := 41) (5) C dX1_couldBe_41 (by decide) ?_
        refine r_istore (pc := 42) C dX1_couldBe_42 (by decide) ?_
        refine r_iload_n (pc := 44) C dX1_couldBe_44 rfl ?_
        refine r_if_eq (pc := 45) 74 C dX1_couldBe_45 (by decide) (fun c45 => ?_) (fun c45 => ?_)
        · refine r_iconst (pc := 74) (0) C dX1_couldBe_74 (by decide) ?_
          refine r_istore_n (pc := 75) C dX1_couldBe_75 (by decide) ?_
          refine r_iinc (pc := 76) _ C dX1_couldBe_76 rfl (nI_1 i) (by decide) ?_
          refine r_goto (pc := 79) 5 C dX1_couldBe_79 (by decide) ?_
          rw [show nf (m_cb T p f) (i + 1) 1 = m_cb T p f i (nf (m_cb T p f) i 1) from rfl, m_cb, if_pos c45] at K5
          refine V_sub ?_ K5
          intro q hq
          simp only [lset, lvo, lkill, List.mem_cons, List.not_mem_nil, or_false] at hq ⊢
          rcases hq with h | h | h | h | h <;> simp [h]
        · refine r_iload (pc := 48) C dX1_couldBe_48 rfl ?_
          refine r_aload_n (pc := 50) C dX1_couldBe_50 rfl ?_
          refine M_g15 (pc := 51) C dX1_couldBe_51 ?_
          refine r_iload (pc := 54) C dX1_couldBe_54 rfl ?_
          refine M_l15 (pc := 56) C dX1_couldBe_56 (by assumption) ?_
          rw [nI_clamp (Nat.lt_trans hi6 (by decide))]
          refine r_iconst (pc := 57) (1) C dX1_couldBe_57 (by decide) ?_
          refine r_icmp_ne (pc := 58) 65 C dX1_couldBe_58 (by decide) (fun c58 => ?_) (fun c58 => ?_)
          · refine r_bipush (pc := 65) (10) C dX1_couldBe_65 (by decide) ?_
            refine r_icmp_eq (pc := 67) 74 C dX1_couldBe_67 (by decide) (fun c67 => ?_) (fun c67 => ?_)
            · refine r_iconst (pc := 74) (0) C dX1_couldBe_74 (by decide) ?_
              refine r_istore_n (pc := 75) C dX1_couldBe_75 (by decide) ?_
              refine r_iinc (pc := 76) _ C dX1_couldBe_76 rfl (nI_1 i) (by decide) ?_
              refine r_goto (pc := 79) 5 C dX1_couldBe_79 (by decide) ?_
              rw [show nf (m_cb T p f) (i + 1) 1 = m_cb T p f i (nf (m_cb T p f) i 1) from rfl, m_cb, if_neg c45, if_neg c58, m_cbt, if_neg c22, if_pos c67] at K5
              refine V_sub ?_ K5
              intro q hq
              simp only [lset, lvo, lkill, List.mem_cons, List.not_mem_nil, or_false] at hq ⊢
              rcases hq with h | h | h | h | h <;> simp [h]
            · refine r_iconst (pc := 70) (1) C dX1_couldBe_70 (by decide) ?_
              refine r_goto (pc := 71) 75 C dX1_couldBe_71 (by decide) ?_
              refine r_istore_n (pc := 75) C dX1_couldBe_75 (by decide) ?_
              refine r_iinc (pc := 76) _ C dX1_couldBe_76 rfl (nI_1 i) (by decide) ?_
              refine r_goto (pc := 79) 5 C dX1_couldBe_79 (by decide) ?_
              rw [show nf (m_cb T p f) (i + 1) 1 = m_cb T p f i (nf (m_cb T p f) i 1) from rfl, m_cb, if_neg c45, if_neg c58, m_cbt, if_neg c22, if_neg c67] at K5
              refine V_sub ?_ K5
              intro q hq
              simp only [lset, lvo, lkill, List.mem_cons, List.not_mem_nil, or_false] at hq ⊢
              rcases hq with h | h | h | h | h <;> simp [h]
          · refine r_iconst (pc := 61) (0) C dX1_couldBe_61 (by decide) ?_
            refine r_goto (pc := 62) 67 C dX1_couldBe_62 (by decide) ?_
            refine r_icmp_eq (pc := 67) 74 C dX1_couldBe_67 (by decide) (fun c67 => ?_) (fun c67 => ?_)
            · refine r_iconst (pc := 74) (0) C dX1_couldBe_74 (by decide) ?_
              refine r_istore_n (pc := 75) C dX1_couldBe_75 (by decide) ?_
              refine r_iinc (pc := 76) _ C dX1_couldBe_76 rfl (nI_1 i) (by decide) ?_
              refine r_goto (pc := 79) 5 C dX1_couldBe_79 (by decide) ?_
              rw [show nf (m_cb T p f) (i + 1) 1 = m_cb T p f i (nf (m_cb T p f) i 1) from rfl, m_cb, if_neg c45, if_pos c58, m_cbt, if_neg c22, if_pos c67] at K5
              refine V_sub ?_ K5
              intro q hq
              simp only [lset, lvo, lkill, List.mem_cons, List.not_mem_nil, or_false] at hq ⊢
              rcases hq with h | h | h | h | h <;> simp [h]
            · refine r_iconst (pc := 70) (1) C dX1_couldBe_70 (by decide) ?_
              refine r_goto (pc := 71) 75 C dX1_couldBe_71 (by decide) ?_
              refine r_istore_n (pc := 75) C dX1_couldBe_75 (by decide) ?_
              refine r_iinc (pc := 76) _ C dX1_couldBe_76 rfl (nI_1 i) (by decide) ?_
              refine r_goto (pc := 79) 5 C dX1_couldBe_79 (by decide) ?_
              rw [show nf (m_cb T p f) (i + 1) 1 = m_cb T p f i (nf (m_cb T p f) i 1) from rfl, m_cb, if_neg c45, if_pos c58, m_cbt, if_neg c22, if_neg c67] at K5
              refine V_sub ?_ K5
              intro q hq
              simp only [lset, lvo, lkill, List.mem_cons, List.not_mem_nil, or_false] at hq ⊢
              rcases hq with h | h | h | h | h <;> simp [h]
      · refine r_aload_n (pc := 25) C dX1_couldBe_25 rfl ?_
        refine r_iload_n (pc := 26) C dX1_couldBe_26 rfl ?_
        refine r_aload_n (pc := 27) C dX1_couldBe_27 rfl ?_
        refine M_g14 (pc := 28) C dX1_couldBe_28 ?_
        refine r_iload (pc := 31) C dX1_couldBe_31 rfl ?_
        refine M_l14 (pc := 33) C dX1_couldBe_33 (by assumption) ?_
        rw [nI_clamp (Nat.lt_trans hi6 (by decide))]
        refine r_iload_n (pc := 34) C dX1_couldBe_34 rfl ?_
        refine M_cQi (pc := 35) C (cM_tenthsBy B a _ _ _ _ (by assumption) (by assumption) (by assumption)) q927 mX1_tenthsBy rfl dX1_couldBe_35 (by decide) (Nat.le_of_ble_eq_true rfl) ?_
        refine r_goto (pc := 38) 42 C dX1_couldBe_38 (by decide) ?_
        refine r_istore (pc := 42) C dX1_couldBe_42 (by decide) ?_
        refine r_iload_n (pc := 44) C dX1_couldBe_44 rfl ?_
        refine r_if_eq (pc := 45) 74 C dX1_couldBe_45 (by decide) (fun c45 => ?_) (fun c45 => ?_)
        · refine r_iconst (pc := 74) (0) C dX1_couldBe_74 (by decide) ?_
          refine r_istore_n (pc := 75) C dX1_couldBe_75 (by decide) ?_
          refine r_iinc (pc := 76) _ C dX1_couldBe_76 rfl (nI_1 i) (by decide) ?_
          refine r_goto (pc := 79) 5 C dX1_couldBe_79 (by decide) ?_
          rw [show nf (m_cb T p f) (i + 1) 1 = m_cb T p f i (nf (m_cb T p f) i 1) from rfl, m_cb, if_pos c45] at K5
          refine V_sub ?_ K5
          intro q hq
          simp only [lset, lvo, lkill, List.mem_cons, List.not_mem_nil, or_false] at hq ⊢
          rcases hq with h | h | h | h | h <;> simp [h]
        · refine r_iload (pc := 48) C dX1_couldBe_48 rfl ?_
          refine r_aload_n (pc := 50) C dX1_couldBe_50 rfl ?_
          refine M_g15 (pc := 51) C dX1_couldBe_51 ?_
          refine r_iload (pc := 54) C dX1_couldBe_54 rfl ?_
          refine M_l15 (pc := 56) C dX1_couldBe_56 (by assumption) ?_
          rw [nI_clamp (Nat.lt_trans hi6 (by decide))]
          refine r_iconst (pc := 57) (1) C dX1_couldBe_57 (by decide) ?_
          refine r_icmp_ne (pc := 58) 65 C dX1_couldBe_58 (by decide) (fun c58 => ?_) (fun c58 => ?_)
          · refine r_bipush (pc := 65) (10) C dX1_couldBe_65 (by decide) ?_
            refine r_icmp_eq (pc := 67) 74 C dX1_couldBe_67 (by decide) (fun c67 => ?_) (fun c67 => ?_)
            · refine r_iconst (pc := 74) (0) C dX1_couldBe_74 (by decide) ?_
              refine r_istore_n (pc := 75) C dX1_couldBe_75 (by decide) ?_
              refine r_iinc (pc := 76) _ C dX1_couldBe_76 rfl (nI_1 i) (by decide) ?_
              refine r_goto (pc := 79) 5 C dX1_couldBe_79 (by decide) ?_
              rw [show nf (m_cb T p f) (i + 1) 1 = m_cb T p f i (nf (m_cb T p f) i 1) from rfl, m_cb, if_neg c45, if_neg c58, m_cbt, if_pos c22, if_pos c67] at K5
              refine V_sub ?_ K5
              intro q hq
              simp only [lset, lvo, lkill, List.mem_cons, List.not_mem_nil, or_false] at hq ⊢
              rcases hq with h | h | h | h | h <;> simp [h]
            · refine r_iconst (pc := 70) (1) C dX1_couldBe_70 (by decide) ?_
              refine r_goto (pc := 71) 75 C dX1_couldBe_71 (by decide) ?_
              refine r_istore_n (pc := 75) C dX1_couldBe_75 (by decide) ?_
              refine r_iinc (pc := 76) _ C dX1_couldBe_76 rfl (nI_1 i) (by decide) ?_
              refine r_goto (pc := 79) 5 C dX1_couldBe_79 (by decide) ?_
              rw [show nf (m_cb T p f) (i + 1) 1 = m_cb T p f i (nf (m_cb T p f) i 1) from rfl, m_cb, if_neg c45, if_neg c58, m_cbt, if_pos c22, if_neg c67] at K5
              refine V_sub ?_ K5
              intro q hq
              simp only [lset, lvo, lkill, List.mem_cons, List.not_mem_nil, or_false] at hq ⊢
              rcases hq with h | h | h | h | h <;> simp [h]
          · refine r_iconst (pc := 61) (0) C dX1_couldBe_61 (by decide) ?_
            refine r_goto (pc := 62) 67 C dX1_couldBe_62 (by decide) ?_
            refine r_icmp_eq (pc := 67) 74 C dX1_couldBe_67 (by decide) (fun c67 => ?_) (fun c67 => ?_)
            · refine r_iconst (pc := 74) (0) C dX1_couldBe_74 (by decide) ?_
              refine r_istore_n (pc := 75) C dX1_couldBe_75 (by decide) ?_
              refine r_iinc (pc := 76) _ C dX1_couldBe_76 rfl (nI_1 i) (by decide) ?_
              refine r_goto (pc := 79) 5 C dX1_couldBe_79 (by decide) ?_
              rw [show nf (m_cb T p f) (i + 1) 1 = m_cb T p f i (nf (m_cb T p f) i 1) from rfl, m_cb, if_neg c45, if_pos c58, m_cbt, if_pos c22, if_pos c67] at K5
              refine V_sub ?_ K5
              intro q hq
              simp only [lset, lvo, lkill, List.mem_cons, List.not_mem_nil, or_false] at hq ⊢
              rcases hq with h | h | h | h | h <;> simp [h]
            · refine r_iconst (pc := 70) (1) C dX1_couldBe_70 (by decide) ?_
              refine r_goto (pc := 71) 75 C dX1_couldBe_71 (by decide) ?_
              refine r_istore_n (pc := 75) C dX1_couldBe_75 (by decide) ?_
              refine r_iinc (pc := 76) _ C dX1_couldBe_76 rfl (nI_1 i) (by decide) ?_
              refine r_goto (pc := 79) 5 C dX1_couldBe_79 (by decide) ?_
              rw [show nf (m_cb T p f) (i + 1) 1 = m_cb T p f i (nf (m_cb T p f) i 1) from rfl, m_cb, if_neg c45, if_pos c58, m_cbt, if_pos c22, if_neg c67] at K5
              refine V_sub ?_ K5
              intro q hq
              simp only [lset, lvo, lkill, List.mem_cons, List.not_mem_nil, or_false] at hq ⊢
              rcases hq with h | h | h | h | h <;> simp [h]
  · refine r_iload (pc := 5) C dX1_couldBe_5 rfl ?_
    refine r_aload_n (pc := 7) C dX1_couldBe_7 rfl ?_
    refine M_g12 (pc := 8) C dX1_couldBe_8 ?_
    refine r_icmp_ge (pc := 11) 82 C dX1_couldBe_11 (by decide) (fun c11 => ?_) (fun c11 => ?_)
    · refine r_iload_n (pc := 82) C dX1_couldBe_82 rfl ?_
      exact r_zret (pc := 83) C hR dX1_couldBe_83 (z_of (m_cb_01 T p f _)) (by decide) (by decide) ⟨rfl, rfl⟩
    · exact absurd (lp_out hI.heard (by decide)) c11

set_option maxHeartbeats 4000000 in
theorem cM_fondnessNow {G : Gx} (B : Base G) (a : Nat → Nat) (T : StM) (p : Int32) (hI : IM T) (hp : vp_in p 3) : Ci G yX1_fondnessNow cX1_fondnessNow 4 .int (rmD 3) (wM G a) T [.ref (a 0), .int p] (fun r S' => r = m_fondnessNow T p ∧ S' = T) := by
  refine Ci.of B [some (.ref (a 0)), some (.int p), none, none] (by decide) rfl (Nat.le_of_ble_eq_true rfl) (fun E C hR => ?_)
  have C : CxOk E RX1 cX1_fondnessNow 4 G (rmD 3) := C
  refine r_iconst (pc := 0) (0) C dX1_fondnessNow_0 (by decide) ?_
  refine r_istore_n (pc := 1) C dX1_fondnessNow_1 (by decide) ?_
  refine r_iconst (pc := 2) (0) C dX1_fondnessNow_2 (by decide) ?_
  refine r_istore_n (pc := 3) C dX1_fondnessNow_3 (by decide) ?_
  refine V_for (P := fun i z => V E 4 0 0 (wM G a T) 4 [some (.ref (a 0)), some (.int p), some (.int z), some (.int (nI i))] []) (m_fb T p) 0 10 (fun i hi K4 => ?_) ?_
  · refine r_iload_n (pc := 4) C dX1_fondnessNow_4 rfl ?_
    refine r_bipush (pc := 5) (9) C dX1_fondnessNow_5 (by decide) ?_
    refine r_icmp_gt (pc := 7) 35 C dX1_fondnessNow_7 (by decide) (fun c7 => ?_) (fun c7 => ?_)
    · exact absurd c7 (nI_nlt (a := 9) (Nat.le_of_lt_succ hi) (by decide))
    · refine r_iload_n (pc := 10) C dX1_fondnessNow_10 rfl ?_
      refine r_aload_n (pc := 11) C dX1_fondnessNow_11 rfl ?_
      refine r_iload_n (pc := 12) C dX1_fondnessNow_12 rfl ?_
      refine r_iload_n (pc := 13) C dX1_fondnessNow_13 rfl ?_
      refine M_cQi (pc := 14) C (cM_couldBe B a _ _ _ (by assumption) (by assumption)) q1024 mX1_couldBe rfl dX1_fondnessNow_14 (by decide) (Nat.le_of_ble_eq_true rfl) ?_
      refine r_if_eq (pc := 17) 26 C dX1_fondnessNow_17 (by decide) (fun c17 => ?_) (fun c17 => ?_)
      · refine r_iconst (pc := 26) (0) C dX1_fondnessNow_26 (by decide) ?_
        refine r_ior (pc := 27) C dX1_fondnessNow_27 ?_
        refine r_istore_n (pc := 28) C dX1_fondnessNow_28 (by decide) ?_
        refine r_iinc (pc := 29) _ C dX1_fondnessNow_29 rfl (nI_1 i) (by decide) ?_
        refine r_goto (pc := 32) 4 C dX1_fondnessNow_32 (by decide) ?_
        rw [show nf (m_fb T p) (i + 1) 0 = m_fb T p i (nf (m_fb T p) i 0) from rfl, m_fb, if_pos c17] at K4
        exact K4
      · refine r_iconst (pc := 20) (1) C dX1_fondnessNow_20 (by decide) ?_
        refine r_iload_n (pc := 21) C dX1_fondnessNow_21 rfl ?_
        refine r_ishl (pc := 22) C dX1_fondnessNow_22 ?_
        refine r_goto (pc := 23) 27 C dX1_fondnessNow_23 (by decide) ?_
        refine r_ior (pc := 27) C dX1_fondnessNow_27 ?_
        refine r_istore_n (pc := 28) C dX1_fondnessNow_28 (by decide) ?_
        refine r_iinc (pc := 29) _ C dX1_fondnessNow_29 rfl (nI_1 i) (by decide) ?_
        refine r_goto (pc := 32) 4 C dX1_fondnessNow_32 (by decide) ?_
        rw [show nf (m_fb T p) (i + 1) 0 = m_fb T p i (nf (m_fb T p) i 0) from rfl, m_fb, if_neg c17] at K4
        exact K4
  · refine r_iload_n (pc := 4) C dX1_fondnessNow_4 rfl ?_
    refine r_bipush (pc := 5) (9) C dX1_fondnessNow_5 (by decide) ?_
    refine r_icmp_gt (pc := 7) 35 C dX1_fondnessNow_7 (by decide) (fun c7 => ?_) (fun c7 => ?_)
    · refine r_iload_n (pc := 35) C dX1_fondnessNow_35 rfl ?_
      exact r_iret (pc := 36) C hR dX1_fondnessNow_36 (by decide) (by decide) ⟨rfl, rfl⟩
    · exact absurd (nI_lt (a := 9) (b := 10) (by decide) (by decide)) c7

set_option maxHeartbeats 4000000 in
theorem cM_fondness {G : Gx} (B : Base G) (a : Nat → Nat) (T : StM) (p : Int32) (hI : IM T) : Ci G yX1_fondness cX1_fondness 2 .int (rmD 4) (wM G a) T [.ref (a 0), .int p] (fun r S' => r = m_fondness T p ∧ S' = T) := by
  refine Ci.of B [some (.ref (a 0)), some (.int p)] (by decide) rfl (Nat.le_of_ble_eq_true rfl) (fun E C hR => ?_)
  have C : CxOk E RX1 cX1_fondness 2 G (rmD 4) := C
  refine r_aload_n (pc := 0) C dX1_fondness_0 rfl ?_
  refine r_iload_n (pc := 1) C dX1_fondness_1 rfl ?_
  refine M_cQi (pc := 2) C (cM_isPrince B a _ _) q892 mX1_isPrince rfl dX1_fondness_2 (by decide) (Nat.le_of_ble_eq_true rfl) ?_
  refine r_if_eq (pc := 5) 16 C dX1_fondness_5 (by decide) (fun c5 => ?_) (fun c5 => ?_)
  · refine r_bipush (pc := 16) (-101) C dX1_fondness_16 (by decide) ?_
    exact r_iret (pc := 18) C hR dX1_fondness_18 (by decide) (by decide) (by refine ⟨?_, ?_⟩ <;> (try simp only [m_fondness, c5, ↓reduceIte]) <;> (try rfl))
  · have hp := hI.pr c5
    refine r_aload_n (pc := 8) C dX1_fondness_8 rfl ?_
    refine r_iload_n (pc := 9) C dX1_fondness_9 rfl ?_
    refine M_cQi (pc := 10) C (cM_fondnessNow B a _ _ (by assumption) (by assumption)) q1020 mX1_fondnessNow rfl dX1_fondness_10 (by decide) (Nat.le_of_ble_eq_true rfl) ?_
    refine r_goto (pc := 13) 18 C dX1_fondness_13 (by decide) ?_
    exact r_iret (pc := 18) C hR dX1_fondness_18 (by decide) (by decide) (by refine ⟨?_, ?_⟩ <;> (try simp only [m_fondness, c5, ↓reduceIte]) <;> (try rfl))

set_option maxHeartbeats 4000000 in
theorem cM_draw {G : Gx} (B : Base G) (a : Nat → Nat) (T : StM) (m : Int32) (hm : ¬ m = 0) : Ci G yX1_draw cX1_draw 2 .int (rmD 0) (wM G a) T [.ref (a 0), .int m] (fun r S' => r = m_drawR T m ∧ S' = m_drawS T) := by
  refine Ci.of B [some (.ref (a 0)), some (.int m)] (by decide) rfl (Nat.le_of_ble_eq_true rfl) (fun E C hR => ?_)
  have C : CxOk E RX1 cX1_draw 2 G (rmD 0) := C
  refine r_aload_n (pc := 0) C dX1_draw_0 rfl ?_
  refine r_ldc2 (pc := 1) C dX1_draw_1 q1048 ?_
  refine r_aload_n (pc := 4) C dX1_draw_4 rfl ?_
  refine M_g26 (pc := 5) C dX1_draw_5 ?_
  refine r_lmul (pc := 8) C dX1_draw_8 ?_
  refine r_ldc2 (pc := 9) C dX1_draw_9 q1049 ?_
  refine r_ladd (pc := 12) C dX1_draw_12 ?_
  refine r_ldc2 (pc := 13) C dX1_draw_13 q1050 ?_
  refine r_land (pc := 16) C dX1_draw_16 ?_
  refine M_p26 (pc := 17) C dX1_draw_17 ?_
  refine r_aload_n (pc := 20) C dX1_draw_20 rfl ?_
  refine M_g26 (pc := 21) C dX1_draw_21 ?_
  refine r_ldc2 (pc := 24) C dX1_draw_24 q1051 ?_
  refine r_ldiv (pc := 27) C dX1_draw_27 (by decide) ?_
  refine r_iload_n (pc := 28) C dX1_draw_28 rfl ?_
  refine r_i2l (pc := 29) C dX1_draw_29 ?_
  refine r_lrem (pc := 30) C dX1_draw_30 (toL_ne hm) ?_
  refine r_l2i (pc := 31) C dX1_draw_31 ?_
  exact r_iret (pc := 32) C hR dX1_draw_32 (by decide) (by decide) ⟨rfl, rfl⟩

set_option maxHeartbeats 4000000 in
theorem cM_goOne {G : Gx} (B : Base G) (a : Nat → Nat) (T : StM) (p l : Int32) (hI : IM T) (hp : vp_in p 3) (hl : vp_in l 5) : Ci G yX1_goOne cX1_goOne 3 .int (rmD 3) (wM G a) T [.ref (a 0), .int p, .int l] (fun r S' => r = (m_goOne T p l).1 ∧ S' = (m_goOne T p l).2) := by
  refine Ci.of B [some (.ref (a 0)), some (.int p), some (.int l)] (by decide) rfl (Nat.le_of_ble_eq_true rfl) (fun E C hR => ?_)
  have C : CxOk E RX1 cX1_goOne 3 G (rmD 3) := C
  refine r_aload_n (pc := 0) C dX1_goOne_0 rfl ?_
  refine r_bipush (pc := 1) (10) C dX1_goOne_1 (by decide) ?_
  refine M_cQi (pc := 3) C (cM_draw B a _ _ (by decide)) q1044 mX1_draw rfl dX1_goOne_3 (by decide) (Nat.le_of_ble_eq_true rfl) ?_
  refine r_aload_n (pc := 6) C dX1_goOne_6 rfl ?_
  refine r_iload_n (pc := 7) C dX1_goOne_7 rfl ?_
  refine r_iload_n (pc := 8) C dX1_goOne_8 rfl ?_
  refine M_cQi (pc := 9) C (cM_tenthsNow B a (m_drawS T) _ _ hI hp hl) q923 mX1_tenthsNow rfl dX1_goOne_9 (by decide) (Nat.le_of_ble_eq_true rfl) ?_
  refine r_icmp_ge (pc := 12) 29 C dX1_goOne_12 (by decide) (fun c12 => ?_) (fun c12 => ?_)
  · refine r_aload_n (pc := 29) C dX1_goOne_29 rfl ?_
    refine r_iload_n (pc := 30) C dX1_goOne_30 rfl ?_
    refine r_iload_n (pc := 31) C dX1_goOne_31 rfl ?_
    refine M_cQv (pc := 32) C (cM_fails B a (m_drawS T) _ _ hI hp hl) q935 mX1_fails rfl dX1_goOne_32 (by decide) (Nat.le_of_ble_eq_true rfl) ?_
    refine r_aload_n (pc := 35) C dX1_goOne_35 rfl ?_
    refine M_g4 (pc := 36) C dX1_goOne_36 ?_
    refine r_iload_n (pc := 39) C dX1_goOne_39 rfl ?_
    refine M_l4 (pc := 40) C dX1_goOne_40 (by assumption) ?_
    exact r_iret (pc := 41) C hR dX1_goOne_41 (by decide) (by decide) ⟨by (rw [m_goOne, if_pos c12] <;> rfl), by (rw [m_goOne, if_pos c12] <;> rfl)⟩
  · refine r_aload_n (pc := 15) C dX1_goOne_15 rfl ?_
    refine M_g10 (pc := 16) C dX1_goOne_16 ?_
    refine r_iload_n (pc := 19) C dX1_goOne_19 rfl ?_
    refine r_dup2_11 (pc := 20) C dX1_goOne_20 rfl rfl ?_
    refine M_l10 (pc := 21) C dX1_goOne_21 (by assumption) ?_
    refine r_iconst (pc := 22) (1) C dX1_goOne_22 (by decide) ?_
    refine r_iload_n (pc := 23) C dX1_goOne_23 rfl ?_
    refine r_ishl (pc := 24) C dX1_goOne_24 ?_
    refine r_ior (pc := 25) C dX1_goOne_25 ?_
    refine M_s10 (pc := 26) C dX1_goOne_26 (by assumption) ?_
    refine r_iconst (pc := 27) (0) C dX1_goOne_27 (by decide) ?_
    exact r_iret (pc := 28) C hR dX1_goOne_28 (by decide) (by decide) ⟨by (rw [m_goOne, if_neg c12] <;> rfl), by (rw [m_goOne, if_neg c12] <;> rfl)⟩

set_option maxHeartbeats 4000000 in
theorem cM_learntAll {G : Gx} (B : Base G) (a : Nat → Nat) (T : StM) (hI : IM T) : Ci G yX1_learntAll cX1_learntAll 3 .int (rmD 1) (wM G a) T [.ref (a 0)] (fun r S' => r = m_learntAll T ∧ S' = T) := by
  refine Ci.of B [some (.ref (a 0)), none, none] (by decide) rfl (Nat.le_of_ble_eq_true rfl) (fun E C hR => ?_)
  have C : CxOk E RX1 cX1_learntAll 3 G (rmD 1) := C
  refine r_iconst (pc := 0) (0) C dX1_learntAll_0 (by decide) ?_
  refine r_istore_n (pc := 1) C dX1_learntAll_1 (by decide) ?_
  refine r_iconst (pc := 2) (0) C dX1_learntAll_2 (by decide) ?_
  refine r_istore_n (pc := 3) C dX1_learntAll_3 (by decide) ?_
  refine V_for (P := fun i z => V E 3 0 0 (wM G a T) 4 [some (.ref (a 0)), some (.int z), some (.int (nI i))] []) (m_la T) 0 (T.1 6).toNatClampNeg (fun i hi K4 => ?_) ?_
  · have hi3 : i < 3 := Nat.lt_of_lt_of_le hi hI.many.2
    refine r_iload_n (pc := 4) C dX1_learntAll_4 rfl ?_
    refine r_aload_n (pc := 5) C dX1_learntAll_5 rfl ?_
    refine M_g6 (pc := 6) C dX1_learntAll_6 ?_
    refine r_icmp_ge (pc := 9) 30 C dX1_learntAll_9 (by decide) (fun c9 => ?_) (fun c9 => ?_)
    · exact absurd c9 (lp_in hI.many (by decide) hi)
    · refine r_iload_n (pc := 12) C dX1_learntAll_12 rfl ?_
      refine r_aload_n (pc := 13) C dX1_learntAll_13 rfl ?_
      refine M_g10 (pc := 14) C dX1_learntAll_14 ?_
      refine r_iload_n (pc := 17) C dX1_learntAll_17 rfl ?_
      refine M_l10 (pc := 18) C dX1_learntAll_18 (vp_in_nI hi3 (by decide)) ?_
      rw [nI_clamp (Nat.lt_trans hi3 (by decide))]
      refine S_cQi (pc := 19) C (cM_size B _) q1056 mX1_size rfl dX1_learntAll_19 (by decide) (Nat.le_of_ble_eq_true rfl) ?_
      refine r_iadd (pc := 22) C dX1_learntAll_22 ?_
      refine r_istore_n (pc := 23) C dX1_learntAll_23 (by decide) ?_
      refine r_iinc (pc := 24) _ C dX1_learntAll_24 rfl (nI_1 i) (by decide) ?_
      refine r_goto (pc := 27) 4 C dX1_learntAll_27 (by decide) ?_
      exact K4
  · refine r_iload_n (pc := 4) C dX1_learntAll_4 rfl ?_
    refine r_aload_n (pc := 5) C dX1_learntAll_5 rfl ?_
    refine M_g6 (pc := 6) C dX1_learntAll_6 ?_
    refine r_icmp_ge (pc := 9) 30 C dX1_learntAll_9 (by decide) (fun c9 => ?_) (fun c9 => ?_)
    · refine r_iload_n (pc := 30) C dX1_learntAll_30 rfl ?_
      exact r_iret (pc := 31) C hR dX1_learntAll_31 (by decide) (by decide) ⟨rfl, rfl⟩
    · exact absurd (lp_out hI.many (by decide)) c9

set_option maxHeartbeats 4000000 in
theorem cM_stripesAll {G : Gx} (B : Base G) (a : Nat → Nat) (T : StM)  : Ci G yX1_stripesAll cX1_stripesAll 1 .int (rmD 0) (wM G a) T [.ref (a 0)] (fun r S' => r = m_stripesAll T ∧ S' = T) := by
  refine Ci.of B [some (.ref (a 0))] (by decide) rfl (Nat.le_of_ble_eq_true rfl) (fun E C hR => ?_)
  have C : CxOk E RX1 cX1_stripesAll 1 G (rmD 0) := C
  refine r_aload_n (pc := 0) C dX1_stripesAll_0 rfl ?_
  refine M_g5 (pc := 1) C dX1_stripesAll_1 ?_
  refine r_iconst (pc := 4) (0) C dX1_stripesAll_4 (by decide) ?_
  refine M_l5 (pc := 5) C dX1_stripesAll_5 (vp_in_nI (n := 0) (by decide) (by decide)) ?_
  refine r_aload_n (pc := 6) C dX1_stripesAll_6 rfl ?_
  refine M_g5 (pc := 7) C dX1_stripesAll_7 ?_
  refine r_iconst (pc := 10) (1) C dX1_stripesAll_10 (by decide) ?_
  refine M_l5 (pc := 11) C dX1_stripesAll_11 (vp_in_nI (n := 1) (by decide) (by decide)) ?_
  refine r_iadd (pc := 12) C dX1_stripesAll_12 ?_
  refine r_aload_n (pc := 13) C dX1_stripesAll_13 rfl ?_
  refine M_g5 (pc := 14) C dX1_stripesAll_14 ?_
  refine r_iconst (pc := 17) (2) C dX1_stripesAll_17 (by decide) ?_
  refine M_l5 (pc := 18) C dX1_stripesAll_18 (vp_in_nI (n := 2) (by decide) (by decide)) ?_
  refine r_iadd (pc := 19) C dX1_stripesAll_19 ?_
  exact r_iret (pc := 20) C hR dX1_stripesAll_20 (by decide) (by decide) ⟨rfl, rfl⟩

set_option maxHeartbeats 4000000 in
theorem cM_howMany {G : Gx} (B : Base G) (a : Nat → Nat) (T : StM) (w : Int32) (hI : IM T) : Ci G yX1_howMany cX1_howMany 2 .int (rmD 2) (wM G a) T [.ref (a 0), .int w] (fun r S' => r = m_count T w ∧ S' = T) := by
  refine Ci.of B [some (.ref (a 0)), some (.int w)] (by decide) rfl (Nat.le_of_ble_eq_true rfl) (fun E C hR => ?_)
  have C : CxOk E RX1 cX1_howMany 2 G (rmD 2) := C
  refine r_iload_n (pc := 0) C dX1_howMany_0 rfl ?_
  rcases sw9 w with rfl | rfl | rfl | rfl | rfl | rfl | rfl | rfl | rfl | hw
  · refine r_tblIn (pc := 1) (off := 51) 52 C dX1_howMany_1 (by decide) (by decide) rfl (by decide) ?_
    refine r_aload_n (pc := 52) C dX1_howMany_52 rfl ?_
    refine M_g1 (pc := 53) C dX1_howMany_53 ?_
    exact r_iret (pc := 56) C hR dX1_howMany_56 (by decide) (by decide) ⟨rfl, rfl⟩
  · refine r_tblIn (pc := 1) (off := 56) 57 C dX1_howMany_1 (by decide) (by decide) rfl (by decide) ?_
    refine r_aload_n (pc := 57) C dX1_howMany_57 rfl ?_
    refine M_g2 (pc := 58) C dX1_howMany_58 ?_
    exact r_iret (pc := 61) C hR dX1_howMany_61 (by decide) (by decide) ⟨rfl, rfl⟩
  · refine r_tblIn (pc := 1) (off := 61) 62 C dX1_howMany_1 (by decide) (by decide) rfl (by decide) ?_
    refine r_aload_n (pc := 62) C dX1_howMany_62 rfl ?_
    refine M_g6 (pc := 63) C dX1_howMany_63 ?_
    exact r_iret (pc := 66) C hR dX1_howMany_66 (by decide) (by decide) ⟨rfl, rfl⟩
  · refine r_tblIn (pc := 1) (off := 66) 67 C dX1_howMany_1 (by decide) (by decide) rfl (by decide) ?_
    refine r_aload_n (pc := 67) C dX1_howMany_67 rfl ?_
    refine M_cQi (pc := 68) C (cM_stripesAll B a _) q1067 mX1_stripesAll rfl dX1_howMany_68 (by decide) (Nat.le_of_ble_eq_true rfl) ?_
    exact r_iret (pc := 71) C hR dX1_howMany_71 (by decide) (by decide) ⟨rfl, rfl⟩
  · refine r_tblIn (pc := 1) (off := 71) 72 C dX1_howMany_1 (by decide) (by decide) rfl (by decide) ?_
    refine r_aload_n (pc := 72) C dX1_howMany_72 rfl ?_
    refine M_cQi (pc := 73) C (cM_learntAll B a _ (by first | assumption | exact hI)) q1052 mX1_learntAll rfl dX1_howMany_73 (by decide) (Nat.le_of_ble_eq_true rfl) ?_
    exact r_iret (pc := 76) C hR dX1_howMany_76 (by decide) (by decide) ⟨rfl, rfl⟩
  · refine r_tblIn (pc := 1) (off := 76) 77 C dX1_howMany_1 (by decide) (by decide) rfl (by decide) ?_
    refine r_aload_n (pc := 77) C dX1_howMany_77 rfl ?_
    refine M_g12 (pc := 78) C dX1_howMany_78 ?_
    exact r_iret (pc := 81) C hR dX1_howMany_81 (by decide) (by decide) ⟨rfl, rfl⟩
  · refine r_tblIn (pc := 1) (off := 81) 82 C dX1_howMany_1 (by decide) (by decide) rfl (by decide) ?_
    refine r_aload_n (pc := 82) C dX1_howMany_82 rfl ?_
    refine M_g17 (pc := 83) C dX1_howMany_83 ?_
    exact r_iret (pc := 86) C hR dX1_howMany_86 (by decide) (by decide) ⟨rfl, rfl⟩
  · refine r_tblIn (pc := 1) (off := 86) 87 C dX1_howMany_1 (by decide) (by decide) rfl (by decide) ?_
    refine r_aload_n (pc := 87) C dX1_howMany_87 rfl ?_
    refine M_g0 (pc := 88) C dX1_howMany_88 ?_
    exact r_iret (pc := 91) C hR dX1_howMany_91 (by decide) (by decide) ⟨rfl, rfl⟩
  · refine r_tblIn (pc := 1) (off := 91) 92 C dX1_howMany_1 (by decide) (by decide) rfl (by decide) ?_
    refine r_aload_n (pc := 92) C dX1_howMany_92 rfl ?_
    refine M_g16 (pc := 93) C dX1_howMany_93 ?_
    exact r_iret (pc := 96) C hR dX1_howMany_96 (by decide) (by decide) ⟨rfl, rfl⟩
  · refine r_tblOut (pc := 1) 97 C dX1_howMany_1 hw.1 (by decide) ?_
    refine r_bipush (pc := 97) (-102) C dX1_howMany_97 (by decide) ?_
    exact r_iret (pc := 99) C hR dX1_howMany_99 (by decide) (by decide) (by refine ⟨?_, ?_⟩ <;> (try simp only [m_count, hw, ↓reduceIte]) <;> (try rfl))

set_option maxHeartbeats 4000000 in
theorem cM_count {G : Gx} (B : Base G) (a : Nat → Nat) (T : StM) (w : Int32) (hI : IM T) : Ci G yX1_count cX1_count 2 .int (rmD 3) (wM G a) T [.ref (a 0), .int w] (fun r S' => r = m_count T w ∧ S' = T) := by
  refine Ci.of B [some (.ref (a 0)), some (.int w)] (by decide) rfl (Nat.le_of_ble_eq_true rfl) (fun E C hR => ?_)
  have C : CxOk E RX1 cX1_count 2 G (rmD 3) := C
  refine r_aload_n (pc := 0) C dX1_count_0 rfl ?_
  refine r_iload_n (pc := 1) C dX1_count_1 rfl ?_
  refine M_cQi (pc := 2) C (cM_howMany B a _ _ (by first | assumption | exact hI)) q1079 mX1_howMany rfl dX1_count_2 (by decide) (Nat.le_of_ble_eq_true rfl) ?_
  exact r_iret (pc := 5) C hR dX1_count_5 (by decide) (by decide) ⟨rfl, rfl⟩

set_option maxHeartbeats 4000000 in
theorem cM_mix {G : Gx} (B : Base G) (a : Nat → Nat) (T : StM) (v : Int64) : Cv G yX1_mix cX1_mix 3 (rmD 0) (wM G a) T [.ref (a 0), .long v] (fun S' => S' = m_mix T v) := by
  refine Cv.of B [some (.ref (a 0)), some (.long v), none] (by decide) rfl (Nat.le_of_ble_eq_true rfl) (fun E C hR => ?_)
  have C : CxOk E RX1 cX1_mix 3 G (rmD 0) := C
  refine r_aload_n (pc := 0) C dX1_mix_0 rfl ?_
  refine r_ldc2 (pc := 1) C dX1_mix_1 q1092 ?_
  refine r_aload_n (pc := 4) C dX1_mix_4 rfl ?_
  refine M_g39 (pc := 5) C dX1_mix_5 ?_
  refine r_lmul (pc := 8) C dX1_mix_8 ?_
  refine r_lload_n (pc := 9) C dX1_mix_9 rfl ?_
  refine r_ladd (pc := 10) C dX1_mix_10 ?_
  refine M_p39 (pc := 11) C dX1_mix_11 ?_
  exact r_vret (pc := 14) C hR dX1_mix_14 (by decide) (by decide) rfl

