
set_option maxRecDepth 100000
def m_onF (mean : Nat → Nat) (c : Nat) (b : Option (Nat × Nat)) : Option (Nat × Nat) := match b with
  | none => some (mean c, c)
  | some q => if q.1 ≤ mean c then some q else some (mean c, c)
def bI (b : Option (Nat × Nat)) : Int32 := match b with
  | none => -1
  | some q => nI q.2
def bL (b : Option (Nat × Nat)) : Int64 := match b with
  | none => 0
  | some q => lN q.1
def m_n (T : StM) (p : Int32) : Nat := (m_LL T p).length
def m_row (LL : List Nat) (c : Nat) : List Nat := (rowIdx LL.length c).map (fun x => LL.getD x 0)
def m_bst (T : StM) (p : Int32) : Option (Nat × Nat) := nf (m_onF (fun c => m_mean T p (m_row (m_LL T p) c))) (fct (m_n T p)) none
def m_orderNow (T : StM) (p w : Int32) : Int64 := match m_bst T p with
  | none => 0
  | some q => if 2 ≤ w then (if nI (m_n T p) ≤ w - 10 then -1 else (nI ((m_row (m_LL T p) q.2).getD (w - 10).toNatClampNeg 0)).toInt64) else termN q.1 (10 ^ m_n T p) w
theorem m_orderNow_e {T : StM} {p w : Int32} {q : Nat × Nat} (h : m_bst T p = some q) : m_orderNow T p w = if 2 ≤ w then (if nI (m_n T p) ≤ w - 10 then -1 else (nI ((m_row (m_LL T p) q.2).getD (w - 10).toNatClampNeg 0)).toInt64) else termN q.1 (10 ^ m_n T p) w := by
  unfold m_orderNow
  rw [h]
def m_order (T : StM) (p w : Int32) : Int64 × StM := if m_isPrince T p = 0 then (-101, T) else if jin w 0 1 = 0 ∧ jin w 10 14 = 0 then (-102, T) else if T.1 16 = 20 then (-103, T) else (m_orderNow T p w, setMi T 16 (T.1 16 + 1))
def m_zz (T : StM) (r : Nat → Int32) (x y : Int32) : StM := m_xy (setMa T 25 r) x y
def m_os (T Z : StM) : Prop := ∃ arr n r x y, Z = m_zz (m_ls T arr n) r x y
theorem m_zz_row (T : StM) (r g : Nat → Int32) (x y : Int32) : setMa (m_zz T r x y) 25 g = m_zz T g x y := by
  unfold m_zz m_xy setMi setMa
  show (va_up (va_up T.1 21 x) 22 y, T.2.1, va_up (va_up T.2.2 25 r) 25 g) = (va_up (va_up T.1 21 x) 22 y, T.2.1, va_up T.2.2 25 g)
  rw [up_up]
theorem m_zz_xy (T : StM) (r : Nat → Int32) (x y x' y' : Int32) : m_xy (m_zz T r x y) x' y' = m_zz T r x' y' := by
  unfold m_zz m_xy setMi setMa
  show (va_up (va_up (va_up (va_up T.1 21 x) 22 y) 21 x') 22 y', T.2.1, va_up T.2.2 25 r) = (va_up (va_up T.1 21 x') 22 y', T.2.1, va_up T.2.2 25 r)
  rw [up_comm _ (by decide : ¬ 22 = 21), up_up, up_up]
theorem m_zz_id (T : StM) : T = m_zz T (mar T 25) (T.1 21) (T.1 22) := by
  unfold m_zz
  rw [setMa_id]
  exact m_xy_id T
theorem m_os_id (T : StM) : m_os T T := by
  refine ⟨mar T 23, T.1 24, mar T 25, T.1 21, T.1 22, ?_⟩
  rw [← m_ls_id, show setMi T 24 (T.1 24) = T from (by unfold setMi; rw [up_id])]
  exact m_zz_id T
theorem fct_le : ∀ n, n ≤ 5 → fct n ≤ 120 ∧ 0 < fct n := by decide
theorem rowIdx_lt : ∀ n, n ≤ 5 → ∀ c, c < fct n → (rowIdx n c).length = n ∧ ∀ x, x ∈ rowIdx n c → x < n := by decide +kernel
theorem m_row_ok {LL : List Nat} (hl : LL.length ≤ 5) (h5 : ∀ x, x ∈ LL → x < 5) {c : Nat} (hc : c < fct LL.length) : (m_row LL c).length = LL.length ∧ ∀ x, x ∈ m_row LL c → x < 5 := by
  obtain ⟨h1, h2⟩ := rowIdx_lt LL.length hl c hc
  refine ⟨by rw [m_row, List.length_map, h1], fun x hx => ?_⟩
  obtain ⟨y, hy, rfl⟩ := List.mem_map.mp hx
  exact h5 _ (getD_mem (h2 y hy))
theorem m_mv_le {T : StM} (hI : IM T) {p : Int32} (hp : vp_in p 3) {R : List Nat} (hR5 : ∀ x, x ∈ R → x < 5) (hRl : R.length ≤ 5) (g : Nat) : m_mv T p R g ≤ 2500000 := by
  obtain ⟨-, h2, h3⟩ := qn_ok hI hp hR5 g R.length (Nat.le_refl _)
  have h4 : 10 ^ R.length ≤ 10 ^ 5 := Nat.pow_le_pow_right (by decide) hRl
  exact Nat.le_trans (Nat.mul_le_mul (Nat.le_trans h2 h4) (Nat.le_trans h3 (Nat.mul_le_mul_left 5 hRl))) (by decide)
theorem nf_sum_le {f : Nat → Nat} {B : Nat} (h : ∀ g, f g ≤ B) : ∀ n, nf (fun g z => z + f g) n 0 ≤ n * B := by
  intro n
  induction n with
  | zero => exact Nat.zero_le _
  | succ n ih =>
    rw [Nat.succ_mul]
    exact Nat.add_le_add ih (h n)
theorem m_mean_le {T : StM} (hI : IM T) {p : Int32} (hp : vp_in p 3) {R : List Nat} (hR5 : ∀ x, x ∈ R → x < 5) (hRl : R.length ≤ 5) : m_mean T p R < 2 ^ 62 :=
  Nat.lt_of_le_of_lt (Nat.le_trans (nf_sum_le (fun g => m_mv_le hI hp hR5 hRl g) (2 ^ R.length)) (Nat.mul_le_mul_right _ (pw32 hRl))) (by decide)
theorem m_bst_ok {T : StM} (p : Int32) (hn : m_n T p ≤ 5) : ∃ q, m_bst T p = some q ∧ q.2 < fct (m_n T p) ∧ q.1 = m_mean T p (m_row (m_LL T p) q.2) := by
  have key : ∀ n, 0 < n → n ≤ fct (m_n T p) → ∃ q, nf (m_onF (fun c => m_mean T p (m_row (m_LL T p) c))) n none = some q ∧ q.2 < fct (m_n T p) ∧ q.1 = m_mean T p (m_row (m_LL T p) q.2) := by
    intro n
    induction n with
    | zero => intro h; exact absurd h (Nat.lt_irrefl _)
    | succ n ih =>
      intro _ hn
      show ∃ q, m_onF _ n (nf (m_onF _) n none) = some q ∧ _
      rcases Nat.eq_zero_or_pos n with e | e
      · subst e
        exact ⟨_, rfl, by show 0 < _; omega, rfl⟩
      · obtain ⟨q, h1, h2, h3⟩ := ih e (by omega)
        rw [h1]
        by_cases hc : q.1 ≤ m_mean T p (m_row (m_LL T p) n)
        · exact ⟨q, if_pos hc, h2, h3⟩
        · exact ⟨_, if_neg hc, by show n < _; omega, rfl⟩
  exact key _ (fct_le _ hn).2 (Nat.le_refl _)
theorem bL_le {q : Nat × Nat} {m : Nat} (h1 : q.1 < 2 ^ 62) (h2 : m < 2 ^ 62) : (0 ≤ lg_cmp (lN m) (bL (some q))) ↔ q.1 ≤ m := by
  rw [lg_cmp_ge]
  exact pk_lLE (by omega) (by omega)

set_option maxHeartbeats 4000000 in
theorem cM_meanBy {G : Gx} (B : Base G) (a : Nat → Nat) (T : StM) (p : Int32) (g : Nat) (hI : IM T) (hp : vp_in p 3) (R : List Nat) (hRn : T.1 24 = nI R.length) (hRa : LOk R (mar T 25)) (hR5 : ∀ x, x ∈ R → x < 5) (hRl : R.length ≤ 5) : Cl G yX1_meanBy cX1_meanBy 8 (rmD 3) (wM G a) T [.ref (a 0), .int p, .int (nI g)] (fun r S' => r = lN (m_mv T p R g) ∧ S' = m_sv T p) := by
  refine Cl.of B [some (.ref (a 0)), some (.int p), some (.int (nI g)), none, none, none, none, none] (by decide) rfl (Nat.le_of_ble_eq_true rfl) (fun E C hR => ?_)
  have C : CxOk E RX1 cX1_meanBy 8 G (rmD 3) := C
  refine r_aload_n (pc := 0) C dX1_meanBy_0 rfl ?_
  refine r_iload_n (pc := 1) C dX1_meanBy_1 rfl ?_
  refine M_cQv (pc := 2) C (cM_save B a _ _ (by assumption) (by assumption)) q967 mX1_save rfl dX1_meanBy_2 (by decide) (Nat.le_of_ble_eq_true rfl) ?_
  refine r_lconst (pc := 5) 1 C dX1_meanBy_5 (by decide) ?_
  refine r_lstore_n (pc := 6) C dX1_meanBy_6 (by decide) ?_
  refine r_iconst (pc := 7) (0) C dX1_meanBy_7 (by decide) ?_
  refine r_istore (pc := 8) C dX1_meanBy_8 (by decide) ?_
  refine r_iconst (pc := 10) (0) C dX1_meanBy_10 (by decide) ?_
  refine r_istore (pc := 11) C dX1_meanBy_11 (by decide) ?_
  refine V_w (congrArg (wM G a) (m_vf_id T p)) ?_
  refine V_for (P := fun i q => V E 8 0 0 (wM G a (m_vf T p q.2.2.1 q.2.2.2)) 13 [some (.ref (a 0)), some (.int p), some (.int (nI g)), some (.long (lN q.1)), none, some (.int (nI q.2.1)), some (.int (nI i)), none] []) (mbF (tfM T p) (bfM T) (T.1 2) R g) (1, 0, mar T 5 (bIx T p), mar T 11 (fIx T p)) R.length (fun i hi K13 => ?_) ?_
  · obtain ⟨hR9, ho1, ho2⟩ : Rg (nf (mbF (tfM T p) (bfM T) (T.1 2) R g) i (1, 0, mar T 5 (bIx T p), mar T 11 (fIx T p))).2.2.2 9 ∧ (nf (mbF (tfM T p) (bfM T) (T.1 2) R g) i (1, 0, mar T 5 (bIx T p), mar T 11 (fIx T p))).1 ≤ 10 ^ i ∧ (nf (mbF (tfM T p) (bfM T) (T.1 2) R g) i (1, 0, mar T 5 (bIx T p), mar T 11 (fIx T p))).2.1 ≤ 5 * i := qn_ok hI hp hR5 g i (Nat.le_of_lt hi)
    simp only [nf] at K13
    generalize nf (mbF (tfM T p) (bfM T) (T.1 2) R g) i (1, 0, mar T 5 (bIx T p), mar T 11 (fIx T p)) = q at K13 hR9 ho1 ho2 ⊢
    have hIZ : IM (m_vf T p q.2.2.1 q.2.2.2) := IM_vf hI p _ hR9
    have hv5 : vp_in (nI i) 5 := vp_in_nI (by omega) (by decide)
    have hl5 : R.getD i 0 < 5 := hR5 _ (getD_mem hi)
    have hlv : vp_in (nI (R.getD i 0)) 5 := vp_in_nI hl5 (by decide)
    have hl : (m_vf T p q.2.2.1 q.2.2.2).2.2 25 (nI i).toNatClampNeg = nI (R.getD i 0) := by rw [nI_clamp (by omega)]; exact hRa i hi
    have hb1 : mar T 4 (R.getD i 0) = nI (bfM T (R.getD i 0)) := (hI.blow hl5).1
    have hb5 : bfM T (R.getD i 0) ≤ 5 := (hI.blow hl5).2
    have hb2 : (m_vf T p q.2.2.1 q.2.2.2).2.2 4 (nI (R.getD i 0)).toNatClampNeg = nI (bfM T (R.getD i 0)) := by rw [nI_clamp (by omega)]; exact hb1
    have ht10 := tfM_le T p (R.getD i 0) q.2.2.2
    refine r_iload (pc := 13) C dX1_meanBy_13 rfl ?_
    refine r_aload_n (pc := 15) C dX1_meanBy_15 rfl ?_
    refine M_g24 (pc := 16) C dX1_meanBy_16 ?_
    refine r_icmp_ge (pc := 19) 98 C dX1_meanBy_19 (by decide) (fun c19 => ?_) (fun c19 => ?_)
    · have c19 : T.1 24 ≤ nI i := c19
      rw [hRn] at c19
      exact absurd c19 (nI_ge hi (by omega))
    · refine r_aload_n (pc := 22) C dX1_meanBy_22 rfl ?_
      refine r_iload_n (pc := 23) C dX1_meanBy_23 rfl ?_
      refine r_aload_n (pc := 24) C dX1_meanBy_24 rfl ?_
      refine M_g25 (pc := 25) C dX1_meanBy_25 ?_
      refine r_iload (pc := 28) C dX1_meanBy_28 rfl ?_
      refine M_l25 (pc := 30) C dX1_meanBy_30 (by assumption) ?_
      rw [hl]
      refine M_cQi (pc := 31) C (cM_tenthsNow B a _ _ _ (by assumption) (by assumption) (by assumption)) q923 mX1_tenthsNow rfl dX1_meanBy_31 (by decide) (Nat.le_of_ble_eq_true rfl) ?_
      rw [tn_vf, tfM_e]
      refine r_istore (pc := 34) C dX1_meanBy_34 (by decide) ?_
      refine r_iload_n (pc := 36) C dX1_meanBy_36 rfl ?_
      refine r_iload (pc := 37) C dX1_meanBy_37 rfl ?_
      refine S_cQi (pc := 39) C (cM_has B _ _) q873 mX1_has rfl dX1_meanBy_39 (by decide) (Nat.le_of_ble_eq_true rfl) ?_
      refine r_if_eq (pc := 42) 86 C dX1_meanBy_42 (by decide) (fun c42 => ?_) (fun c42 => ?_)
      · refine r_lload_n (pc := 86) C dX1_meanBy_86 rfl ?_
        refine r_iload (pc := 87) C dX1_meanBy_87 rfl ?_
        refine r_i2l (pc := 89) C dX1_meanBy_89 ?_
        rw [nI_l (by omega)]
        refine r_lmul (pc := 90) C dX1_meanBy_90 ?_
        rw [lN_mul]
        refine r_lstore_n (pc := 91) C dX1_meanBy_91 (by decide) ?_
        refine r_iinc (pc := 92) _ C dX1_meanBy_92 rfl (nI_1 i) (by decide) ?_
        refine r_goto (pc := 95) 13 C dX1_meanBy_95 (by decide) ?_
        rw [show mbF (tfM T p) (bfM T) (T.1 2) R g i q = _ from if_pos c42] at K13
        refine V_sub ?_ K13
        intro q1 hq1
        simp only [lset, lset2, lvo, lkill, List.mem_cons, List.not_mem_nil, or_false] at hq1 ⊢
        rcases hq1 with h | h | h | h | h | h <;> first | (simp [h]; done) | (simp [h]; rfl)
      · refine r_lload_n (pc := 45) C dX1_meanBy_45 rfl ?_
        refine r_bipush (pc := 46) (10) C dX1_meanBy_46 (by decide) ?_
        refine r_iload (pc := 48) C dX1_meanBy_48 rfl ?_
        refine r_isub (pc := 50) C dX1_meanBy_50 ?_
        rw [show (10 : Int32) - nI (tfM T p (R.getD i 0) q.2.2.2) = nI (10 - tfM T p (R.getD i 0) q.2.2.2) from pk_sub (a := 10) (by omega)]
        refine r_i2l (pc := 51) C dX1_meanBy_51 ?_
        rw [nI_l (by omega)]
        refine r_lmul (pc := 52) C dX1_meanBy_52 ?_
        rw [lN_mul]
        refine r_lstore_n (pc := 53) C dX1_meanBy_53 (by decide) ?_
        refine r_iload (pc := 54) C dX1_meanBy_54 rfl ?_
        refine r_aload_n (pc := 56) C dX1_meanBy_56 rfl ?_
        refine M_g4 (pc := 57) C dX1_meanBy_57 ?_
        refine r_aload_n (pc := 60) C dX1_meanBy_60 rfl ?_
        refine M_g25 (pc := 61) C dX1_meanBy_61 ?_
        refine r_iload (pc := 64) C dX1_meanBy_64 rfl ?_
        refine M_l25 (pc := 66) C dX1_meanBy_66 (by assumption) ?_
        rw [hl]
        refine M_l4 (pc := 67) C dX1_meanBy_67 (by assumption) ?_
        rw [hb2]
        refine r_iadd (pc := 68) C dX1_meanBy_68 ?_
        rw [nI_add]
        refine r_istore (pc := 69) C dX1_meanBy_69 (by decide) ?_
        refine r_aload_n (pc := 71) C dX1_meanBy_71 rfl ?_
        refine r_iload_n (pc := 72) C dX1_meanBy_72 rfl ?_
        refine r_aload_n (pc := 73) C dX1_meanBy_73 rfl ?_
        refine M_g25 (pc := 74) C dX1_meanBy_74 ?_
        refine r_iload (pc := 77) C dX1_meanBy_77 rfl ?_
        refine M_l25 (pc := 79) C dX1_meanBy_79 (by assumption) ?_
        rw [hl]
        refine M_cQv (pc := 80) C (cM_fails B a _ _ _ (by assumption) (by assumption) (by assumption)) q935 mX1_fails rfl dX1_meanBy_80 (by decide) (Nat.le_of_ble_eq_true rfl) ?_
        refine r_goto (pc := 83) 92 C dX1_meanBy_83 (by decide) ?_
        refine r_iinc (pc := 92) _ C dX1_meanBy_92 rfl (nI_1 i) (by decide) ?_
        refine r_goto (pc := 95) 13 C dX1_meanBy_95 (by decide) ?_
        rw [show mbF (tfM T p) (bfM T) (T.1 2) R g i q = _ from if_neg c42] at K13
        refine V_w (congrArg (wM G a) (fail_vf T p _ _ _ hl5)) ?_
        rw [hb1]
        refine V_sub ?_ K13
        intro q1 hq1
        simp only [lset, lset2, lvo, lkill, List.mem_cons, List.not_mem_nil, or_false] at hq1 ⊢
        rcases hq1 with h | h | h | h | h | h <;> first | (simp [h]; done) | (simp [h]; rfl)
  · obtain ⟨hR9, ho1, ho2⟩ := qn_ok hI hp hR5 g R.length (Nat.le_refl _)
    rw [show nf (mbF (tfM T p) (bfM T) (T.1 2) R g) R.length (1, 0, mar T 5 (bIx T p), mar T 11 (fIx T p)) = m_qn T p R g R.length from rfl]
    generalize hq : m_qn T p R g R.length = q at hR9 ho1 ho2 ⊢
    have hIZ : IM (m_vf T p q.2.2.1 q.2.2.2) := IM_vf hI p _ hR9
    refine r_iload (pc := 13) C dX1_meanBy_13 rfl ?_
    refine r_aload_n (pc := 15) C dX1_meanBy_15 rfl ?_
    refine M_g24 (pc := 16) C dX1_meanBy_16 ?_
    refine r_icmp_ge (pc := 19) 98 C dX1_meanBy_19 (by decide) (fun c19 => ?_) (fun c19 => ?_)
    · refine r_aload_n (pc := 98) C dX1_meanBy_98 rfl ?_
      refine r_iload_n (pc := 99) C dX1_meanBy_99 rfl ?_
      refine M_cQv (pc := 100) C (cM_load B a _ _ (by assumption) (by assumption)) q971 mX1_load rfl dX1_meanBy_100 (by decide) (Nat.le_of_ble_eq_true rfl) ?_
      refine V_w (congrArg (wM G a) (ld_vf T p _ _)) ?_
      refine r_lload_n (pc := 103) C dX1_meanBy_103 rfl ?_
      refine r_iload (pc := 104) C dX1_meanBy_104 rfl ?_
      refine r_i2l (pc := 106) C dX1_meanBy_106 ?_
      rw [nI_l (by omega)]
      refine r_lmul (pc := 107) C dX1_meanBy_107 ?_
      rw [lN_mul]
      exact r_lret (pc := 108) C hR dX1_meanBy_108 (by decide) (by decide) ⟨by rw [← hq]; rfl, rfl⟩
    · exact absurd (show T.1 24 ≤ nI R.length by rw [hRn]; exact Int32.le_refl _) c19

set_option maxHeartbeats 4000000 in
theorem cM_meanOf {G : Gx} (B : Base G) (a : Nat → Nat) (T : StM) (p : Int32) (hI : IM T) (hp : vp_in p 3) (R : List Nat) (hRn : T.1 24 = nI R.length) (hRa : LOk R (mar T 25)) (hR5 : ∀ x, x ∈ R → x < 5) (hRl : R.length ≤ 5) : Cl G yX1_meanOf cX1_meanOf 5 (rmD 4) (wM G a) T [.ref (a 0), .int p] (fun r S' => r = lN (m_mean T p R) ∧ ∃ x y, S' = m_xy T x y) := by
  refine Cl.of B [some (.ref (a 0)), some (.int p), none, none, none] (by decide) rfl (Nat.le_of_ble_eq_true rfl) (fun E C hR => ?_)
  have C : CxOk E RX1 cX1_meanOf 5 G (rmD 4) := C
  have h32 := pw32 hRl
  have esh : (1 : Int32) <<< (T.1 24 &&& 31) = nI (2 ^ R.length) := by rw [hRn]; exact shl5 _ hRl
  refine r_lconst (pc := 0) 0 C dX1_meanOf_0 (by decide) ?_
  refine r_lstore_n (pc := 1) C dX1_meanOf_1 (by decide) ?_
  refine r_iconst (pc := 2) (0) C dX1_meanOf_2 (by decide) ?_
  refine r_istore (pc := 3) C dX1_meanOf_3 (by decide) ?_
  refine V_w (congrArg (wM G a) (m_xy_id T)) ?_
  refine V_for (P := fun i z => ∀ x y, V E 5 0 0 (wM G a (m_xy T x y)) 5 [some (.ref (a 0)), some (.int p), some (.long (lN z)), none, some (.int (nI i))] []) (fun g z => z + m_mv T p R g) 0 (2 ^ R.length) (fun i hi K5 x y => ?_) (fun x y => ?_) _ _
  · simp only [nf] at K5
    refine r_iload (pc := 5) C dX1_meanOf_5 rfl ?_
    refine r_iconst (pc := 7) (1) C dX1_meanOf_7 (by decide) ?_
    refine r_aload_n (pc := 8) C dX1_meanOf_8 rfl ?_
    refine M_g24 (pc := 9) C dX1_meanOf_9 ?_
    refine r_ishl (pc := 12) C dX1_meanOf_12 ?_
    refine r_icmp_ge (pc := 13) 32 C dX1_meanOf_13 (by decide) (fun c13 => ?_) (fun c13 => ?_)
    · have c13 : (1 : Int32) <<< (T.1 24 &&& 31) ≤ nI i := c13
      rw [esh] at c13
      exact absurd c13 (nI_ge hi (by omega))
    · refine r_lload_n (pc := 16) C dX1_meanOf_16 rfl ?_
      refine r_aload_n (pc := 17) C dX1_meanOf_17 rfl ?_
      refine r_iload_n (pc := 18) C dX1_meanOf_18 rfl ?_
      refine r_iload (pc := 19) C dX1_meanOf_19 rfl ?_
      refine M_cQl (pc := 21) C (cM_meanBy B a (m_xy T x y) _ _ hI hp R hRn hRa hR5 hRl) q963 mX1_meanBy rfl dX1_meanOf_21 (by decide) (Nat.le_of_ble_eq_true rfl) ?_
      refine r_ladd (pc := 24) C dX1_meanOf_24 ?_
      rw [show m_mv (m_xy T x y) p R i = m_mv T p R i from rfl, lN_add]
      refine r_lstore_n (pc := 25) C dX1_meanOf_25 (by decide) ?_
      refine r_iinc (pc := 26) _ C dX1_meanOf_26 rfl (nI_1 i) (by decide) ?_
      refine r_goto (pc := 29) 5 C dX1_meanOf_29 (by decide) ?_
      obtain ⟨x1, y1, e1⟩ := m_sv_xy T x y p
      refine V_w (congrArg (wM G a) e1) ?_
      exact K5 x1 y1
  · refine r_iload (pc := 5) C dX1_meanOf_5 rfl ?_
    refine r_iconst (pc := 7) (1) C dX1_meanOf_7 (by decide) ?_
    refine r_aload_n (pc := 8) C dX1_meanOf_8 rfl ?_
    refine M_g24 (pc := 9) C dX1_meanOf_9 ?_
    refine r_ishl (pc := 12) C dX1_meanOf_12 ?_
    refine r_icmp_ge (pc := 13) 32 C dX1_meanOf_13 (by decide) (fun c13 => ?_) (fun c13 => ?_)
    · refine r_lload_n (pc := 32) C dX1_meanOf_32 rfl ?_
      exact r_lret (pc := 33) C hR dX1_meanOf_33 (by decide) (by decide) ⟨rfl, x, y, rfl⟩
    · exact absurd (show (1 : Int32) <<< (T.1 24 &&& 31) ≤ nI (2 ^ R.length) by rw [esh]; exact Int32.le_refl _) c13


theorem on_ok {T : StM} (hI : IM T) {p : Int32} (hp : vp_in p 3) (hn : m_n T p ≤ 5) : ∀ n, n ≤ fct (m_n T p) → ∀ q, nf (m_onF (fun c => m_mean T p (m_row (m_LL T p) c))) n none = some q → q.2 < 120 ∧ q.1 < 2 ^ 62 := by
  have hL5 : ∀ x, x ∈ m_LL T p → x < 5 := fun x hx => Nat.lt_of_lt_of_le (llist_lt hx) hI.les.2
  have hf := fct_le _ hn
  have hm : ∀ c, c < fct (m_n T p) → m_mean T p (m_row (m_LL T p) c) < 2 ^ 62 := fun c hc => by
    obtain ⟨hr1, hr2⟩ := m_row_ok hn hL5 hc
    exact m_mean_le hI hp hr2 (Nat.le_trans (Nat.le_of_eq hr1) hn)
  intro n
  induction n with
  | zero => intro _ q h; cases h
  | succ n ih =>
    intro hn2 q h
    have h : m_onF (fun c => m_mean T p (m_row (m_LL T p) c)) n (nf (m_onF (fun c => m_mean T p (m_row (m_LL T p) c))) n none) = some q := h
    have ih := ih (by omega)
    generalize nf (m_onF (fun c => m_mean T p (m_row (m_LL T p) c))) n none = b at h ih
    cases b with
    | none =>
      have e : (m_mean T p (m_row (m_LL T p) n), n) = q := Option.some.inj h
      rw [← e]
      exact ⟨by show n < 120; omega, hm n (by omega)⟩
    | some z =>
      unfold m_onF at h
      by_cases hc : z.1 ≤ m_mean T p (m_row (m_LL T p) n)
      · simp [hc] at h
        subst h
        exact ih z rfl
      · simp [hc] at h
        rw [← h]
        exact ⟨by show n < 120; omega, hm n (by omega)⟩
theorem bI_none {b : Option (Nat × Nat)} (h : ∀ q, b = some q → q.2 < 120 ∧ q.1 < 2 ^ 62) (e : bI b = -1) : b = none := by
  cases b with
  | none => rfl
  | some q =>
    have h1 := (h q rfl).1
    have h2 := congrArg Int32.toInt e
    rw [show bI (some q) = nI q.2 from rfl, nI_toInt (by omega), show (-1 : Int32).toInt = -1 from rfl] at h2
    omega
theorem w9 {w : Int32} (hw : ¬ (jin w 0 1 = 0 ∧ jin w 10 14 = 0)) (h : w ≤ 9) (h2 : 2 ≤ w) : False := by
  refine hw ⟨?_, ?_⟩
  · rw [jin_eq0]
    exact fun z => Int32.lt_irrefl (Int32.lt_of_lt_of_le (show (1 : Int32) < 2 by decide) (Int32.le_trans h2 z.2))
  · rw [jin_eq0]
    exact fun z => Int32.lt_irrefl (Int32.lt_of_lt_of_le (show (9 : Int32) < 10 by decide) (Int32.le_trans z.1 h))
set_option maxHeartbeats 4000000 in
theorem cM_orderNow {G : Gx} (B : Base G) (a : Nat → Nat) (T : StM) (p w : Int32) (hI : IM T) (hp : vp_in p 3) (hw : ¬ (jin w 0 1 = 0 ∧ jin w 10 14 = 0)) : Cl G yX1_orderNow cX1_orderNow 13 (rmD 5) (wM G a) T [.ref (a 0), .int p, .int w] (fun r S' => r = m_orderNow T p w ∧ m_os T S') := by
  refine Cl.of B [some (.ref (a 0)), some (.int p), some (.int w), none, none, none, none, none, none, none, none, none, none] (by decide) rfl (Nat.le_of_ble_eq_true rfl) (fun E C hR => ?_)
  have C : CxOk E RX1 cX1_orderNow 13 G (rmD 5) := C
  have hn5 : m_n T p ≤ 5 := Nat.le_trans (llist_le _ _) hI.les.2
  have hL5 : ∀ x, x ∈ m_LL T p → x < 5 := fun x hx => Nat.lt_of_lt_of_le (llist_lt hx) hI.les.2
  have hf := fct_le _ hn5
  have hp5 : 10 ^ m_n T p ≤ 10 ^ 5 := Nat.pow_le_pow_right (by decide) hn5
  refine r_aload_n (pc := 0) C dX1_orderNow_0 rfl ?_
  refine r_iload_n (pc := 1) C dX1_orderNow_1 rfl ?_
  refine M_cIv (pc := 2) C (cM_layLeft B a _ _ hI hp) q950 mX1_layLeft rfl dX1_orderNow_2 (by decide) (Nat.le_of_ble_eq_true rfl) (fun S1 h1 => ?_)
  obtain ⟨arr, rfl, hLa⟩ := h1
  have hLa : LOk (m_LL T p) arr := hLa
  rw [show (llist (mar T 10 p.toNatClampNeg) (T.1 1).toNatClampNeg).length = m_n T p from rfl]
  refine r_iconst (pc := 5) (1) C dX1_orderNow_5 (by decide) ?_
  refine r_istore_n (pc := 6) C dX1_orderNow_6 (by decide) ?_
  refine r_lconst (pc := 7) 1 C dX1_orderNow_7 (by decide) ?_
  refine r_lstore (pc := 8) C dX1_orderNow_8 (by decide) ?_
  refine r_iconst (pc := 10) (1) C dX1_orderNow_10 (by decide) ?_
  refine r_istore (pc := 11) C dX1_orderNow_11 (by decide) ?_
  refine V_cnt (P := fun i => V E 13 0 0 (wM G a (m_ls T arr (nI (m_n T p)))) 13 [some (.ref (a 0)), some (.int p), some (.int w), some (.int (nI (fct i))), some (.long (lN (10 ^ i))), none, some (.int (nI (i + 1))), none, none, none, none, none, none] []) (m_n T p) (fun i hi K13 => ?_) ?_
  · refine r_iload (pc := 13) C dX1_orderNow_13 rfl ?_
    refine r_aload_n (pc := 15) C dX1_orderNow_15 rfl ?_
    refine M_g24 (pc := 16) C dX1_orderNow_16 ?_
    refine r_icmp_gt (pc := 19) 41 C dX1_orderNow_19 (by decide) (fun c19 => ?_) (fun c19 => ?_)
    · have c19 : nI (m_n T p) < nI (i + 1) := c19
      exact absurd c19 (nI_nlt (by omega) (by omega))
    · refine r_iload_n (pc := 22) C dX1_orderNow_22 rfl ?_
      refine r_iload (pc := 23) C dX1_orderNow_23 rfl ?_
      refine r_imul (pc := 25) C dX1_orderNow_25 ?_
      rw [show nI (fct i) * nI (i + 1) = nI (fct (i + 1)) from pk_mul _ _]
      refine r_istore_n (pc := 26) C dX1_orderNow_26 (by decide) ?_
      refine r_lload (pc := 27) C dX1_orderNow_27 rfl ?_
      refine r_ldc2 (pc := 29) C dX1_orderNow_29 q954 ?_
      refine r_lmul (pc := 32) C dX1_orderNow_32 ?_
      rw [show lN (10 ^ i) * 10 = lN (10 ^ (i + 1)) from by rw [show (10 : Int64) = lN 10 from rfl, lN_mul, Nat.pow_succ]]
      refine r_lstore (pc := 33) C dX1_orderNow_33 (by decide) ?_
      refine r_iinc (pc := 35) _ C dX1_orderNow_35 rfl (nI_1 (i + 1)) (by decide) ?_
      refine r_goto (pc := 38) 13 C dX1_orderNow_38 (by decide) ?_
      exact K13
  · refine r_iload (pc := 13) C dX1_orderNow_13 rfl ?_
    refine r_aload_n (pc := 15) C dX1_orderNow_15 rfl ?_
    refine M_g24 (pc := 16) C dX1_orderNow_16 ?_
    refine r_icmp_gt (pc := 19) 41 C dX1_orderNow_19 (by decide) (fun c19 => ?_) (fun c19 => ?_)
    · refine r_iconst (pc := 41) (-1) C dX1_orderNow_41 (by decide) ?_
      refine r_istore (pc := 42) C dX1_orderNow_42 (by decide) ?_
      refine r_lconst (pc := 44) 0 C dX1_orderNow_44 (by decide) ?_
      refine r_lstore (pc := 45) C dX1_orderNow_45 (by decide) ?_
      refine r_iconst (pc := 47) (0) C dX1_orderNow_47 (by decide) ?_
      refine r_istore (pc := 48) C dX1_orderNow_48 (by decide) ?_
      refine V_w (congrArg (wM G a) (m_zz_id _)) ?_
      refine V_for (P := fun i b => ∀ r x y, V E 13 0 0 (wM G a (m_zz (m_ls T arr (nI (m_n T p))) r x y)) 50 [some (.ref (a 0)), some (.int p), some (.int w), some (.int (nI (fct (m_n T p)))), some (.long (lN (10 ^ m_n T p))), none, some (.int (bI b)), some (.long (bL b)), none, some (.int (nI i)), none, none, none] []) (m_onF (fun c => m_mean T p (m_row (m_LL T p) c))) none (fct (m_n T p)) (fun i hi K50 r x y => ?_) (fun r x y => ?_) _ _ _
      · simp only [nf] at K50
        have hbok := on_ok (p := p) hI hp hn5 i (Nat.le_of_lt hi)
        generalize nf (m_onF (fun c => m_mean T p (m_row (m_LL T p) c))) i none = b at K50 hbok ⊢
        obtain ⟨hr1, hr2⟩ := m_row_ok hn5 hL5 hi
        have hmlt := m_mean_le hI hp hr2 (Nat.le_trans (Nat.le_of_eq hr1) hn5)
        refine r_iload (pc := 50) C dX1_orderNow_50 rfl ?_
        refine r_iload_n (pc := 52) C dX1_orderNow_52 rfl ?_
        refine r_icmp_ge (pc := 53) 125 C dX1_orderNow_53 (by decide) (fun c53 => ?_) (fun c53 => ?_)
        · exact absurd c53 (nI_ge hi (by omega))
        · refine r_aload_n (pc := 56) C dX1_orderNow_56 rfl ?_
          refine r_iload (pc := 57) C dX1_orderNow_57 rfl ?_
          refine r_iload_n (pc := 59) C dX1_orderNow_59 rfl ?_
          refine M_cIv (pc := 60) C (cM_layOrder B a (m_zz (m_ls T arr (nI (m_n T p))) r x y) i (m_LL T p) rfl hLa hn5 hi) q955 mX1_layOrder rfl dX1_orderNow_60 (by decide) (Nat.le_of_ble_eq_true rfl) (fun S1 h1 => ?_)
          obtain ⟨r2, rfl, hRa⟩ := h1
          rw [m_zz_row]
          refine r_aload_n (pc := 63) C dX1_orderNow_63 rfl ?_
          refine r_iload_n (pc := 64) C dX1_orderNow_64 rfl ?_
          refine M_cIl (pc := 65) C (cM_meanOf B a (m_zz (m_ls T arr (nI (m_n T p))) r2 x y) _ hI hp (m_row (m_LL T p) i) (by show nI (m_n T p) = _; rw [hr1]; rfl) hRa hr2 (Nat.le_trans (Nat.le_of_eq hr1) hn5)) q959 mX1_meanOf rfl dX1_orderNow_65 (by decide) (Nat.le_of_ble_eq_true rfl) (fun r1 S1 h1 => ?_)
          obtain ⟨rfl, x2, y2, rfl⟩ := h1
          rw [m_zz_xy, show m_mean (m_zz (m_ls T arr (nI (m_n T p))) r2 x y) p (m_row (m_LL T p) i) = m_mean T p (m_row (m_LL T p) i) from rfl]
          refine r_lstore (pc := 68) C dX1_orderNow_68 (by decide) ?_
          refine r_iload (pc := 70) C dX1_orderNow_70 rfl ?_
          refine r_iconst (pc := 72) (-1) C dX1_orderNow_72 (by decide) ?_
          refine r_icmp_eq (pc := 73) 84 C dX1_orderNow_73 (by decide) (fun c73 => ?_) (fun c73 => ?_)
          · have c73 : b = none := bI_none hbok c73
            subst c73
            refine r_iconst (pc := 84) (1) C dX1_orderNow_84 (by decide) ?_
            refine r_goto (pc := 85) 89 C dX1_orderNow_85 (by decide) ?_
            refine r_istore (pc := 89) C dX1_orderNow_89 (by decide) ?_
            refine r_iload (pc := 91) C dX1_orderNow_91 rfl ?_
            refine r_if_eq (pc := 93) 101 C dX1_orderNow_93 (by decide) (fun c93 => ?_) (fun c93 => ?_)
            · refine r_iload (pc := 101) C dX1_orderNow_101 rfl ?_
              refine r_istore (pc := 103) C dX1_orderNow_103 (by decide) ?_
              refine r_iload (pc := 105) C dX1_orderNow_105 rfl ?_
              refine r_if_eq (pc := 107) 115 C dX1_orderNow_107 (by decide) (fun c107 => ?_) (fun c107 => ?_)
              · refine r_lload (pc := 115) C dX1_orderNow_115 rfl ?_
                refine r_lstore (pc := 117) C dX1_orderNow_117 (by decide) ?_
                refine r_iinc (pc := 119) _ C dX1_orderNow_119 rfl (nI_1 i) (by decide) ?_
                refine r_goto (pc := 122) 50 C dX1_orderNow_122 (by decide) ?_
                exact absurd c93 (by decide)
              · refine r_lload (pc := 110) C dX1_orderNow_110 rfl ?_
                refine r_goto (pc := 112) 117 C dX1_orderNow_112 (by decide) ?_
                refine r_lstore (pc := 117) C dX1_orderNow_117 (by decide) ?_
                refine r_iinc (pc := 119) _ C dX1_orderNow_119 rfl (nI_1 i) (by decide) ?_
                refine r_goto (pc := 122) 50 C dX1_orderNow_122 (by decide) ?_
                exact absurd c93 (by decide)
            · refine r_iload (pc := 96) C dX1_orderNow_96 rfl ?_
              refine r_goto (pc := 98) 103 C dX1_orderNow_98 (by decide) ?_
              refine r_istore (pc := 103) C dX1_orderNow_103 (by decide) ?_
              refine r_iload (pc := 105) C dX1_orderNow_105 rfl ?_
              refine r_if_eq (pc := 107) 115 C dX1_orderNow_107 (by decide) (fun c107 => ?_) (fun c107 => ?_)
              · refine r_lload (pc := 115) C dX1_orderNow_115 rfl ?_
                refine r_lstore (pc := 117) C dX1_orderNow_117 (by decide) ?_
                refine r_iinc (pc := 119) _ C dX1_orderNow_119 rfl (nI_1 i) (by decide) ?_
                refine r_goto (pc := 122) 50 C dX1_orderNow_122 (by decide) ?_
                exact absurd c107 (by decide)
              · refine r_lload (pc := 110) C dX1_orderNow_110 rfl ?_
                refine r_goto (pc := 112) 117 C dX1_orderNow_112 (by decide) ?_
                refine r_lstore (pc := 117) C dX1_orderNow_117 (by decide) ?_
                refine r_iinc (pc := 119) _ C dX1_orderNow_119 rfl (nI_1 i) (by decide) ?_
                refine r_goto (pc := 122) 50 C dX1_orderNow_122 (by decide) ?_
                rw [show m_onF (fun c => m_mean T p (m_row (m_LL T p) c)) i none = some (m_mean T p (m_row (m_LL T p) i), i) from rfl] at K50
                refine V_sub ?_ (K50 r2 x2 y2)
                intro q1 hq1
                simp only [lset, lset2, lvo, lkill, List.mem_cons, List.not_mem_nil, or_false] at hq1 ⊢
                rcases hq1 with h | h | h | h | h | h | h | h <;> first | (simp [h]; done) | (simp [h]; rfl)
          · obtain ⟨q, rfl⟩ : ∃ q, b = some q := by cases b with | none => exact absurd rfl c73 | some q => exact ⟨q, rfl⟩
            have hq62 := (hbok q rfl).2
            refine r_lload (pc := 76) C dX1_orderNow_76 rfl ?_
            refine r_lload (pc := 78) C dX1_orderNow_78 rfl ?_
            refine r_lcmp (pc := 80) C dX1_orderNow_80 ?_
            refine r_if_ge (pc := 81) 88 C dX1_orderNow_81 (by decide) (fun c81 => ?_) (fun c81 => ?_)
            · have c81 : q.1 ≤ m_mean T p (m_row (m_LL T p) i) := (bL_le hq62 hmlt).mp c81
              refine r_iconst (pc := 88) (0) C dX1_orderNow_88 (by decide) ?_
              refine r_istore (pc := 89) C dX1_orderNow_89 (by decide) ?_
              refine r_iload (pc := 91) C dX1_orderNow_91 rfl ?_
              refine r_if_eq (pc := 93) 101 C dX1_orderNow_93 (by decide) (fun c93 => ?_) (fun c93 => ?_)
              · refine r_iload (pc := 101) C dX1_orderNow_101 rfl ?_
                refine r_istore (pc := 103) C dX1_orderNow_103 (by decide) ?_
                refine r_iload (pc := 105) C dX1_orderNow_105 rfl ?_
                refine r_if_eq (pc := 107) 115 C dX1_orderNow_107 (by decide) (fun c107 => ?_) (fun c107 => ?_)
                · refine r_lload (pc := 115) C dX1_orderNow_115 rfl ?_
                  refine r_lstore (pc := 117) C dX1_orderNow_117 (by decide) ?_
                  refine r_iinc (pc := 119) _ C dX1_orderNow_119 rfl (nI_1 i) (by decide) ?_
                  refine r_goto (pc := 122) 50 C dX1_orderNow_122 (by decide) ?_
                  rw [show m_onF (fun c => m_mean T p (m_row (m_LL T p) c)) i (some q) = _ from if_pos c81] at K50
                  refine V_sub ?_ (K50 r2 x2 y2)
                  intro q1 hq1
                  simp only [lset, lset2, lvo, lkill, List.mem_cons, List.not_mem_nil, or_false] at hq1 ⊢
                  rcases hq1 with h | h | h | h | h | h | h | h <;> first | (simp [h]; done) | (simp [h]; rfl)
                · refine r_lload (pc := 110) C dX1_orderNow_110 rfl ?_
                  refine r_goto (pc := 112) 117 C dX1_orderNow_112 (by decide) ?_
                  refine r_lstore (pc := 117) C dX1_orderNow_117 (by decide) ?_
                  refine r_iinc (pc := 119) _ C dX1_orderNow_119 rfl (nI_1 i) (by decide) ?_
                  refine r_goto (pc := 122) 50 C dX1_orderNow_122 (by decide) ?_
                  exact absurd c107 (by decide)
              · refine r_iload (pc := 96) C dX1_orderNow_96 rfl ?_
                refine r_goto (pc := 98) 103 C dX1_orderNow_98 (by decide) ?_
                refine r_istore (pc := 103) C dX1_orderNow_103 (by decide) ?_
                refine r_iload (pc := 105) C dX1_orderNow_105 rfl ?_
                refine r_if_eq (pc := 107) 115 C dX1_orderNow_107 (by decide) (fun c107 => ?_) (fun c107 => ?_)
                · refine r_lload (pc := 115) C dX1_orderNow_115 rfl ?_
                  refine r_lstore (pc := 117) C dX1_orderNow_117 (by decide) ?_
                  refine r_iinc (pc := 119) _ C dX1_orderNow_119 rfl (nI_1 i) (by decide) ?_
                  refine r_goto (pc := 122) 50 C dX1_orderNow_122 (by decide) ?_
                  exact absurd c93 (by decide)
                · refine r_lload (pc := 110) C dX1_orderNow_110 rfl ?_
                  refine r_goto (pc := 112) 117 C dX1_orderNow_112 (by decide) ?_
                  refine r_lstore (pc := 117) C dX1_orderNow_117 (by decide) ?_
                  refine r_iinc (pc := 119) _ C dX1_orderNow_119 rfl (nI_1 i) (by decide) ?_
                  refine r_goto (pc := 122) 50 C dX1_orderNow_122 (by decide) ?_
                  exact absurd c93 (by decide)
            · have c81 : ¬ q.1 ≤ m_mean T p (m_row (m_LL T p) i) := fun e => c81 ((bL_le hq62 hmlt).mpr e)
              refine r_iconst (pc := 84) (1) C dX1_orderNow_84 (by decide) ?_
              refine r_goto (pc := 85) 89 C dX1_orderNow_85 (by decide) ?_
              refine r_istore (pc := 89) C dX1_orderNow_89 (by decide) ?_
              refine r_iload (pc := 91) C dX1_orderNow_91 rfl ?_
              refine r_if_eq (pc := 93) 101 C dX1_orderNow_93 (by decide) (fun c93 => ?_) (fun c93 => ?_)
              · refine r_iload (pc := 101) C dX1_orderNow_101 rfl ?_
                refine r_istore (pc := 103) C dX1_orderNow_103 (by decide) ?_
                refine r_iload (pc := 105) C dX1_orderNow_105 rfl ?_
                refine r_if_eq (pc := 107) 115 C dX1_orderNow_107 (by decide) (fun c107 => ?_) (fun c107 => ?_)
                · refine r_lload (pc := 115) C dX1_orderNow_115 rfl ?_
                  refine r_lstore (pc := 117) C dX1_orderNow_117 (by decide) ?_
                  refine r_iinc (pc := 119) _ C dX1_orderNow_119 rfl (nI_1 i) (by decide) ?_
                  refine r_goto (pc := 122) 50 C dX1_orderNow_122 (by decide) ?_
                  exact absurd c93 (by decide)
                · refine r_lload (pc := 110) C dX1_orderNow_110 rfl ?_
                  refine r_goto (pc := 112) 117 C dX1_orderNow_112 (by decide) ?_
                  refine r_lstore (pc := 117) C dX1_orderNow_117 (by decide) ?_
                  refine r_iinc (pc := 119) _ C dX1_orderNow_119 rfl (nI_1 i) (by decide) ?_
                  refine r_goto (pc := 122) 50 C dX1_orderNow_122 (by decide) ?_
                  exact absurd c93 (by decide)
              · refine r_iload (pc := 96) C dX1_orderNow_96 rfl ?_
                refine r_goto (pc := 98) 103 C dX1_orderNow_98 (by decide) ?_
                refine r_istore (pc := 103) C dX1_orderNow_103 (by decide) ?_
                refine r_iload (pc := 105) C dX1_orderNow_105 rfl ?_
                refine r_if_eq (pc := 107) 115 C dX1_orderNow_107 (by decide) (fun c107 => ?_) (fun c107 => ?_)
                · refine r_lload (pc := 115) C dX1_orderNow_115 rfl ?_
                  refine r_lstore (pc := 117) C dX1_orderNow_117 (by decide) ?_
                  refine r_iinc (pc := 119) _ C dX1_orderNow_119 rfl (nI_1 i) (by decide) ?_
                  refine r_goto (pc := 122) 50 C dX1_orderNow_122 (by decide) ?_
                  exact absurd c107 (by decide)
                · refine r_lload (pc := 110) C dX1_orderNow_110 rfl ?_
                  refine r_goto (pc := 112) 117 C dX1_orderNow_112 (by decide) ?_
                  refine r_lstore (pc := 117) C dX1_orderNow_117 (by decide) ?_
                  refine r_iinc (pc := 119) _ C dX1_orderNow_119 rfl (nI_1 i) (by decide) ?_
                  refine r_goto (pc := 122) 50 C dX1_orderNow_122 (by decide) ?_
                  rw [show m_onF (fun c => m_mean T p (m_row (m_LL T p) c)) i (some q) = _ from if_neg c81] at K50
                  refine V_sub ?_ (K50 r2 x2 y2)
                  intro q1 hq1
                  simp only [lset, lset2, lvo, lkill, List.mem_cons, List.not_mem_nil, or_false] at hq1 ⊢
                  rcases hq1 with h | h | h | h | h | h | h | h <;> first | (simp [h]; done) | (simp [h]; rfl)
      · obtain ⟨q, hq1, hq2, hq3⟩ := m_bst_ok p hn5
        obtain ⟨hr1, hr2⟩ := m_row_ok hn5 hL5 hq2
        have hqlt : q.1 < 2 ^ 62 := by rw [hq3]; exact m_mean_le hI hp hr2 (Nat.le_trans (Nat.le_of_eq hr1) hn5)
        rw [show nf (m_onF (fun c => m_mean T p (m_row (m_LL T p) c))) (fct (m_n T p)) none = some q from hq1]
        refine r_iload (pc := 50) C dX1_orderNow_50 rfl ?_
        refine r_iload_n (pc := 52) C dX1_orderNow_52 rfl ?_
        refine r_icmp_ge (pc := 53) 125 C dX1_orderNow_53 (by decide) (fun c53 => ?_) (fun c53 => ?_)
        · refine r_aload_n (pc := 125) C dX1_orderNow_125 rfl ?_
          refine r_iload (pc := 126) C dX1_orderNow_126 rfl ?_
          refine r_iload_n (pc := 128) C dX1_orderNow_128 rfl ?_
          refine M_cIv (pc := 129) C (cM_layOrder B a (m_zz (m_ls T arr (nI (m_n T p))) r x y) q.2 (m_LL T p) rfl hLa hn5 hq2) q955 mX1_layOrder rfl dX1_orderNow_129 (by decide) (Nat.le_of_ble_eq_true rfl) (fun S1 h1 => ?_)
          obtain ⟨r2, rfl, hRa⟩ := h1
          rw [m_zz_row]
          refine r_iload_n (pc := 132) C dX1_orderNow_132 rfl ?_
          refine r_iconst (pc := 133) (2) C dX1_orderNow_133 (by decide) ?_
          refine r_icmp_ge (pc := 134) 146 C dX1_orderNow_134 (by decide) (fun c134 => ?_) (fun c134 => ?_)
          · have c134x : w ≤ 9 → False := fun h => w9 hw h c134
            refine r_iload_n (pc := 146) C dX1_orderNow_146 rfl ?_
            refine r_bipush (pc := 147) (10) C dX1_orderNow_147 (by decide) ?_
            refine r_isub (pc := 149) C dX1_orderNow_149 ?_
            refine r_aload_n (pc := 150) C dX1_orderNow_150 rfl ?_
            refine M_g24 (pc := 151) C dX1_orderNow_151 ?_
            refine r_icmp_ge (pc := 154) 170 C dX1_orderNow_154 (by decide) (fun c154 => ?_) (fun c154 => ?_)
            · have c154 : nI (m_n T p) ≤ w - 10 := c154
              refine r_ldc2 (pc := 170) C dX1_orderNow_170 q978 ?_
              exact r_lret (pc := 173) C hR dX1_orderNow_173 (by decide) (by decide) ⟨by rw [m_orderNow_e hq1, if_pos c134, if_pos c154], _, _, _, _, _, rfl⟩
            · have c154 : ¬ nI (m_n T p) ≤ w - 10 := c154
              obtain ⟨hv5, hvn⟩ := to_in hn5 hw (fun h => c134x h) c154
              refine r_aload_n (pc := 157) C dX1_orderNow_157 rfl ?_
              refine M_g25 (pc := 158) C dX1_orderNow_158 ?_
              refine r_iload_n (pc := 161) C dX1_orderNow_161 rfl ?_
              refine r_bipush (pc := 162) (10) C dX1_orderNow_162 (by decide) ?_
              refine r_isub (pc := 164) C dX1_orderNow_164 ?_
              refine M_l25 (pc := 165) C dX1_orderNow_165 hv5 ?_
              refine r_i2l (pc := 166) C dX1_orderNow_166 ?_
              refine r_goto (pc := 167) 173 C dX1_orderNow_167 (by decide) ?_
              exact r_lret (pc := 173) C hR dX1_orderNow_173 (by decide) (by decide) ⟨by rw [m_orderNow_e hq1, if_pos c134, if_neg c154]; exact congrArg Int32.toInt64 (hRa _ (by rw [show ((rowIdx (m_LL T p).length q.2).map (fun x => (m_LL T p).getD x 0)).length = m_n T p from hr1]; exact hvn)), _, _, _, _, _, rfl⟩
          · refine r_lload (pc := 137) C dX1_orderNow_137 rfl ?_
            refine r_lload (pc := 139) C dX1_orderNow_139 rfl ?_
            refine r_iload_n (pc := 141) C dX1_orderNow_141 rfl ?_
            refine S_cQl (pc := 142) C (cM_lowest B q.1 (10 ^ m_n T p) _ hqlt (Nat.lt_of_le_of_lt hp5 (by decide)) (Nat.pow_pos (by decide))) q975 mX1_lowest rfl dX1_orderNow_142 (by decide) (Nat.le_of_ble_eq_true rfl) ?_
            exact r_lret (pc := 145) C hR dX1_orderNow_145 (by decide) (by decide) ⟨by rw [m_orderNow_e hq1, if_neg c134], _, _, _, _, _, rfl⟩
        · exact absurd (Int32.le_refl _) c53
    · exact absurd (show nI (m_n T p) < nI (m_n T p + 1) from nI_lt (by omega) (by omega)) c19

set_option maxHeartbeats 4000000 in
theorem cM_order {G : Gx} (B : Base G) (a : Nat → Nat) (T : StM) (p w : Int32) (hI : IM T) : Cl G yX1_order cX1_order 3 (rmD 6) (wM G a) T [.ref (a 0), .int p, .int w] (fun r S' => r = (m_order T p w).1 ∧ m_os (m_order T p w).2 S') := by
  refine Cl.of B [some (.ref (a 0)), some (.int p), some (.int w)] (by decide) rfl (Nat.le_of_ble_eq_true rfl) (fun E C hR => ?_)
  have C : CxOk E RX1 cX1_order 3 G (rmD 6) := C
  refine r_aload_n (pc := 0) C dX1_order_0 rfl ?_
  refine r_iload_n (pc := 1) C dX1_order_1 rfl ?_
  refine M_cQi (pc := 2) C (cM_isPrince B a _ _) q892 mX1_isPrince rfl dX1_order_2 (by decide) (Nat.le_of_ble_eq_true rfl) ?_
  refine r_if_ne (pc := 5) 12 C dX1_order_5 (by decide) (fun c5 => ?_) (fun c5 => ?_)
  · have hp := hI.pr c5
    refine r_iload_n (pc := 12) C dX1_order_12 rfl ?_
    refine r_iconst (pc := 13) (0) C dX1_order_13 (by decide) ?_
    refine r_iconst (pc := 14) (1) C dX1_order_14 (by decide) ?_
    refine S_cQi (pc := 15) C (cM_within B _ _ _) q826 mX1_within rfl dX1_order_15 (by decide) (Nat.le_of_ble_eq_true rfl) ?_
    refine r_if_ne (pc := 18) 36 C dX1_order_18 (by decide) (fun c18 => ?_) (fun c18 => ?_)
    · have hw : ¬ (jin w 0 1 = 0 ∧ jin w 10 14 = 0) := fun h => c18 h.1
      refine r_aload_n (pc := 36) C dX1_order_36 rfl ?_
      refine M_g16 (pc := 37) C dX1_order_37 ?_
      refine r_bipush (pc := 40) (20) C dX1_order_40 (by decide) ?_
      refine r_icmp_ne (pc := 42) 49 C dX1_order_42 (by decide) (fun c42 => ?_) (fun c42 => ?_)
      · refine r_aload_n (pc := 49) C dX1_order_49 rfl ?_
        refine r_dup (pc := 50) C dX1_order_50 rfl ?_
        refine M_g16 (pc := 51) C dX1_order_51 ?_
        refine r_iconst (pc := 54) (1) C dX1_order_54 (by decide) ?_
        refine r_iadd (pc := 55) C dX1_order_55 ?_
        refine M_p16 (pc := 56) C dX1_order_56 ?_
        refine r_aload_n (pc := 59) C dX1_order_59 rfl ?_
        refine r_iload_n (pc := 60) C dX1_order_60 rfl ?_
        refine r_iload_n (pc := 61) C dX1_order_61 rfl ?_
        refine M_cIl (pc := 62) C (cM_orderNow B a (setMi T 16 (T.1 16 + 1)) _ _ hI hp hw) q946 mX1_orderNow rfl dX1_order_62 (by decide) (Nat.le_of_ble_eq_true rfl) (fun r1 S1 h1 => ?_)
        obtain ⟨rfl, h1⟩ := h1
        exact r_lret (pc := 65) C hR dX1_order_65 (by decide) (by decide) ⟨by rw [m_order, if_neg c5, if_neg hw, if_neg c42]; rfl, by rw [m_order, if_neg c5, if_neg hw, if_neg c42]; exact h1⟩
      · refine r_ldc2 (pc := 45) C dX1_order_45 q945 ?_
        exact r_lret (pc := 48) C hR dX1_order_48 (by decide) (by decide) ⟨by rw [m_order, if_neg c5, if_neg hw, if_pos c42], by rw [m_order, if_neg c5, if_neg hw, if_pos c42]; exact m_os_id T⟩
    · refine r_iload_n (pc := 21) C dX1_order_21 rfl ?_
      refine r_bipush (pc := 22) (10) C dX1_order_22 (by decide) ?_
      refine r_bipush (pc := 24) (14) C dX1_order_24 (by decide) ?_
      refine S_cQi (pc := 26) C (cM_within B _ _ _) q826 mX1_within rfl dX1_order_26 (by decide) (Nat.le_of_ble_eq_true rfl) ?_
      refine r_if_ne (pc := 29) 36 C dX1_order_29 (by decide) (fun c29 => ?_) (fun c29 => ?_)
      · have hw : ¬ (jin w 0 1 = 0 ∧ jin w 10 14 = 0) := fun h => c29 h.2
        refine r_aload_n (pc := 36) C dX1_order_36 rfl ?_
        refine M_g16 (pc := 37) C dX1_order_37 ?_
        refine r_bipush (pc := 40) (20) C dX1_order_40 (by decide) ?_
        refine r_icmp_ne (pc := 42) 49 C dX1_order_42 (by decide) (fun c42 => ?_) (fun c42 => ?_)
        · refine r_aload_n (pc := 49) C dX1_order_49 rfl ?_
          refine r_dup (pc := 50) C dX1_order_50 rfl ?_
          refine M_g16 (pc := 51) C dX1_order_51 ?_
          refine r_iconst (pc := 54) (1) C dX1_order_54 (by decide) ?_
          refine r_iadd (pc := 55) C dX1_order_55 ?_
          refine M_p16 (pc := 56) C dX1_order_56 ?_
          refine r_aload_n (pc := 59) C dX1_order_59 rfl ?_
          refine r_iload_n (pc := 60) C dX1_order_60 rfl ?_
          refine r_iload_n (pc := 61) C dX1_order_61 rfl ?_
          refine M_cIl (pc := 62) C (cM_orderNow B a (setMi T 16 (T.1 16 + 1)) _ _ hI hp hw) q946 mX1_orderNow rfl dX1_order_62 (by decide) (Nat.le_of_ble_eq_true rfl) (fun r1 S1 h1 => ?_)
          obtain ⟨rfl, h1⟩ := h1
          exact r_lret (pc := 65) C hR dX1_order_65 (by decide) (by decide) ⟨by rw [m_order, if_neg c5, if_neg hw, if_neg c42]; rfl, by rw [m_order, if_neg c5, if_neg hw, if_neg c42]; exact h1⟩
        · refine r_ldc2 (pc := 45) C dX1_order_45 q945 ?_
          exact r_lret (pc := 48) C hR dX1_order_48 (by decide) (by decide) ⟨by rw [m_order, if_neg c5, if_neg hw, if_pos c42], by rw [m_order, if_neg c5, if_neg hw, if_pos c42]; exact m_os_id T⟩
      · refine r_ldc2 (pc := 32) C dX1_order_32 q944 ?_
        exact r_lret (pc := 35) C hR dX1_order_35 (by decide) (by decide) ⟨by rw [m_order, if_neg c5, if_pos ⟨c18, c29⟩], by rw [m_order, if_neg c5, if_pos ⟨c18, c29⟩]; exact m_os_id T⟩
  · refine r_ldc2 (pc := 8) C dX1_order_8 q943 ?_
    exact r_lret (pc := 11) C hR dX1_order_11 (by decide) (by decide) ⟨by rw [m_order, if_pos c5], by rw [m_order, if_pos c5]; exact m_os_id T⟩

