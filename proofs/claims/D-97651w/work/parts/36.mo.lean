
set_option maxRecDepth 100000
def fct : Nat → Nat
  | 0 => 1
  | n + 1 => fct n * (n + 1)
def wh : Nat → Int32 → Nat → Nat → Option Nat
  | 0, _, _, _ => none
  | f + 1, used, skip, k => if jhas used (nI k) = 0 then (if skip = 0 then some k else wh f used (skip - 1) (k + 1)) else wh f used skip (k + 1)
def loA (q : Nat × Nat × Int32 × List Nat) (m : Nat) : Nat := (wh 6 q.2.2.1 (q.1 / m) 0).getD 9
def loF (n k : Nat) (q : Nat × Nat × Int32 × List Nat) : Nat × Nat × Int32 × List Nat := (q.1 % (q.2.1 / (n - k)), q.2.1 / (n - k), q.2.2.1 ||| (1 : Int32) <<< (nI (loA q (q.2.1 / (n - k))) &&& 31), q.2.2.2 ++ [loA q (q.2.1 / (n - k))])
def loQ (n c k : Nat) : Nat × Nat × Int32 × List Nat := nf (loF n) k (c, fct n, 0, [])
def rowIdx (n c : Nat) : List Nat := (loQ n c n).2.2.2
theorem lo_ok : ∀ n, n ≤ 5 → ∀ c, c < fct n → ∀ k, k < n → 0 < (loQ n c k).2.1 / (n - k) ∧ loA (loQ n c k) ((loQ n c k).2.1 / (n - k)) < n ∧ (loQ n c k).1 < 1000 ∧ (loQ n c k).2.1 < 1000 := by decide +kernel
theorem loQ_len (n c : Nat) : ∀ k, (loQ n c k).2.2.2.length = k := by
  intro k
  induction k with
  | zero => rfl
  | succ k ih =>
    show ((loQ n c k).2.2.2 ++ [_]).length = k + 1
    rw [List.length_append, ih]
    rfl
theorem wh_some {q : Nat × Nat × Int32 × List Nat} {m n : Nat} (h : loA q m < n) (hn : n ≤ 5) : wh 6 q.2.2.1 (q.1 / m) 0 = some (loA q m) := by
  unfold loA at h ⊢
  cases e : wh 6 q.2.2.1 (q.1 / m) 0 with
  | none => rw [e] at h; simp at h; omega
  | some x => rfl
theorem sub_z (x : Int32) : x - 0 = x := by
  rw [Int32.sub_eq_add_neg]
  simp
def tfM (T : StM) (p : Int32) (l : Nat) (f : Int32) : Nat := (m_tenthsBy T p (nI l) f).toNatClampNeg
def bfM (T : StM) (l : Nat) : Nat := (mar T 4 l).toNatClampNeg
theorem tfM_le (T : StM) (p : Int32) (l : Nat) (f : Int32) : tfM T p l f ≤ 10 := (tenthsF_rg _ _ _ _).2
theorem tfM_e (T : StM) (p : Int32) (l : Nat) (f : Int32) : m_tenthsBy T p (nI l) f = nI (tfM T p l f) := (tenthsF_rg _ _ _ _).1
/-- one outcome: how likely, how many blows, the stripes and the fondness behind it -/
def mbF (tf : Nat → Int32 → Nat) (bf : Nat → Nat) (lim : Int32) (R : List Nat) (g k : Nat) (q : Nat × Nat × Int32 × Int32) : Nat × Nat × Int32 × Int32 := if jhas (nI g) (nI k) = 0 then (q.1 * tf (R.getD k 0) q.2.2.2, q.2) else (q.1 * (10 - tf (R.getD k 0) q.2.2.2), q.2.1 + bf (R.getD k 0), q.2.2.1 + nI (bf (R.getD k 0)), fondNext lim q.2.2.2 (q.2.2.1 + nI (bf (R.getD k 0))))
def mbQ (tf : Nat → Int32 → Nat) (bf : Nat → Nat) (lim : Int32) (R : List Nat) (s f : Int32) (g n : Nat) : Nat × Nat × Int32 × Int32 := nf (mbF tf bf lim R g) n (1, 0, s, f)
def mbV (tf : Nat → Int32 → Nat) (bf : Nat → Nat) (lim : Int32) (R : List Nat) (s f : Int32) (g : Nat) : Nat := (mbQ tf bf lim R s f g R.length).1 * (mbQ tf bf lim R s f g R.length).2.1
def m_qn (T : StM) (p : Int32) (R : List Nat) (g n : Nat) : Nat × Nat × Int32 × Int32 := mbQ (tfM T p) (bfM T) (T.1 2) R (mar T 5 (bIx T p)) (mar T 11 (fIx T p)) g n
def m_mv (T : StM) (p : Int32) (R : List Nat) (g : Nat) : Nat := mbV (tfM T p) (bfM T) (T.1 2) R (mar T 5 (bIx T p)) (mar T 11 (fIx T p)) g
def m_mean (T : StM) (p : Int32) (R : List Nat) : Nat := nf (fun g z => z + m_mv T p R g) (2 ^ R.length) 0
theorem qn_ok {T : StM} (hI : IM T) {p : Int32} (hp : vp_in p 3) {R : List Nat} (hR5 : ∀ x, x ∈ R → x < 5) (g : Nat) : ∀ n, n ≤ R.length → Rg (m_qn T p R g n).2.2.2 9 ∧ (m_qn T p R g n).1 ≤ 10 ^ n ∧ (m_qn T p R g n).2.1 ≤ 5 * n := by
  intro n
  induction n with
  | zero =>
    intro _
    have h := vin9p hp (hI.boy hp)
    exact ⟨(hI.2.2.2.2.2.1 _ (vp_lt h (by decide)).1).1, Nat.le_refl _, Nat.le_refl _⟩
  | succ n ih =>
    intro hn
    obtain ⟨h1, h2, h3⟩ := ih (by omega)
    show Rg (mbF (tfM T p) (bfM T) (T.1 2) R g n (m_qn T p R g n)).2.2.2 9 ∧ (mbF (tfM T p) (bfM T) (T.1 2) R g n (m_qn T p R g n)).1 ≤ 10 ^ (n + 1) ∧ (mbF (tfM T p) (bfM T) (T.1 2) R g n (m_qn T p R g n)).2.1 ≤ 5 * (n + 1)
    have hb : bfM T (R.getD n 0) ≤ 5 := (hI.blow (hR5 _ (getD_mem (by omega)))).2
    have ht := tfM_le T p (R.getD n 0) (m_qn T p R g n).2.2.2
    generalize m_qn T p R g n = q at h1 h2 h3 ht
    unfold mbF
    split
    · refine ⟨h1, ?_, ?_⟩
      · show q.1 * _ ≤ _; rw [Nat.pow_succ]; exact Nat.mul_le_mul h2 ht
      · show q.2.1 ≤ _; omega
    · refine ⟨fondNext_rg _ _ _, ?_, ?_⟩
      · show q.1 * _ ≤ _; rw [Nat.pow_succ]; exact Nat.mul_le_mul h2 (by omega)
      · show q.2.1 + _ ≤ _; omega


theorem setMa_id (T : StM) (k : Nat) : setMa T k (mar T k) = T := by
  unfold setMa
  show (T.1, T.2.1, va_up T.2.2 k (T.2.2 k)) = T
  rw [up_id]
theorem setMa_2 (T : StM) (k : Nat) (f g : Nat → Int32) : setMa (setMa T k f) k g = setMa T k g := by
  unfold setMa
  show (T.1, T.2.1, va_up (va_up T.2.2 k f) k g) = _
  rw [up_up]
theorem whf {f : Nat} {u : Int32} {s k r : Nat} (h : wh f u s k = some r) : 0 < f := by
  cases f with
  | zero => cases h
  | succ f => omega
theorem wh_1 {f : Nat} {u : Int32} {s k r : Nat} (h : wh f u s k = some r) (c : ¬ jhas u (nI k) = 0) : wh f u s k = wh (f - 1) u s (k + 1) := by
  cases f with
  | zero => cases h
  | succ f => exact if_neg c
theorem wh_2 {f : Nat} {u : Int32} {s k r : Nat} (h : wh f u s k = some r) (c : jhas u (nI k) = 0) (hs : ¬ s = 0) : wh f u s k = wh (f - 1) u (s - 1) (k + 1) := by
  cases f with
  | zero => cases h
  | succ f => exact (if_pos c).trans (if_neg hs)
theorem wh_3 {f : Nat} {u : Int32} {s k r : Nat} (h : wh f u s k = some r) (c : jhas u (nI k) = 0) (hs : s = 0) : r = k := by
  cases f with
  | zero => cases h
  | succ f =>
    have e : wh (f + 1) u s k = some k := (if_pos c).trans (if_pos hs)
    rw [e] at h
    exact (Option.some.inj h).symm
set_option maxHeartbeats 4000000 in
theorem cM_layOrder {G : Gx} (B : Base G) (a : Nat → Nat) (T : StM) (c : Nat) (LL : List Nat) (hLn : T.1 24 = nI LL.length) (hLa : LOk LL (mar T 23)) (hLl : LL.length ≤ 5) (hc : c < fct LL.length) : Cv G yX1_layOrder cX1_layOrder 9 (rmD 1) (wM G a) T [.ref (a 0), .int (nI c), .int (nI (fct LL.length))] (fun S' => ∃ r, S' = setMa T 25 r ∧ LOk ((rowIdx LL.length c).map (fun x => LL.getD x 0)) r) := by
  refine Cv.of B [some (.ref (a 0)), some (.int (nI c)), some (.int (nI (fct LL.length))), none, none, none, none, none, none] (by decide) rfl (Nat.le_of_ble_eq_true rfl) (fun E C hR => ?_)
  have C : CxOk E RX1 cX1_layOrder 9 G (rmD 1) := C
  refine r_iload_n (pc := 0) C dX1_layOrder_0 rfl ?_
  refine r_istore_n (pc := 1) C dX1_layOrder_1 (by decide) ?_
  refine r_iload_n (pc := 2) C dX1_layOrder_2 rfl ?_
  refine r_istore (pc := 3) C dX1_layOrder_3 (by decide) ?_
  refine r_iconst (pc := 5) (0) C dX1_layOrder_5 (by decide) ?_
  refine r_istore (pc := 6) C dX1_layOrder_6 (by decide) ?_
  refine r_iconst (pc := 8) (0) C dX1_layOrder_8 (by decide) ?_
  refine r_istore (pc := 9) C dX1_layOrder_9 (by decide) ?_
  refine V_w (congrArg (wM G a) (setMa_id T 25).symm) ?_
  refine V_cnt (P := fun i => ∀ r, LOk ((loQ LL.length c i).2.2.2.map (fun x => LL.getD x 0)) r → V E 9 0 0 (wM G a (setMa T 25 r)) 11 [some (.ref (a 0)), some (.int (nI c)), some (.int (nI (fct LL.length))), some (.int (nI (loQ LL.length c i).1)), some (.int (nI (loQ LL.length c i).2.1)), some (.int (loQ LL.length c i).2.2.1), some (.int (nI i)), none, none] []) LL.length (fun i hi K11 r hr => ?_) (fun r hr => ?_) _ (fun k hk => absurd hk (Nat.not_lt_zero k))
  · obtain ⟨hm0, hat, hq1, hq2⟩ := lo_ok LL.length hLl c hc i hi
    have hlen := loQ_len LL.length c i
    have hwh := wh_some hat hLl
    simp only [loQ, nf] at K11
    change ∀ r, LOk ((loF LL.length i (loQ LL.length c i)).2.2.2.map (fun x => LL.getD x 0)) r → V E 9 0 0 (wM G a (setMa T 25 r)) 11 [some (.ref (a 0)), some (.int (nI c)), some (.int (nI (fct LL.length))), some (.int (nI (loF LL.length i (loQ LL.length c i)).1)), some (.int (nI (loF LL.length i (loQ LL.length c i)).2.1)), some (.int (loF LL.length i (loQ LL.length c i)).2.2.1), some (.int (nI (i + 1))), none, none] [] at K11
    generalize loQ LL.length c i = q at K11 hm0 hat hq1 hq2 hlen hwh hr ⊢
    obtain ⟨m1, hm1⟩ : ∃ m1, m1 = q.2.1 / (LL.length - i) := ⟨_, rfl⟩
    have hm1le : m1 ≤ q.2.1 := by rw [hm1]; exact Nat.div_le_self _ _
    rw [← hm1] at hm0 hat hwh
    have hdl : q.1 / m1 ≤ q.1 := Nat.div_le_self _ _
    refine r_iload (pc := 11) C dX1_layOrder_11 rfl ?_
    refine r_aload_n (pc := 13) C dX1_layOrder_13 rfl ?_
    refine M_g24 (pc := 14) C dX1_layOrder_14 ?_
    refine r_icmp_ge (pc := 17) 116 C dX1_layOrder_17 (by decide) (fun c17 => ?_) (fun c17 => ?_)
    · have c17 : T.1 24 ≤ nI i := c17
      rw [hLn] at c17
      exact absurd c17 (nI_ge hi (by omega))
    · refine r_iload (pc := 20) C dX1_layOrder_20 rfl ?_
      refine r_aload_n (pc := 22) C dX1_layOrder_22 rfl ?_
      refine M_g24 (pc := 23) C dX1_layOrder_23 ?_
      refine r_iload (pc := 26) C dX1_layOrder_26 rfl ?_
      refine r_isub (pc := 28) C dX1_layOrder_28 ?_
      rw [show (setMa T 25 r).1 24 - nI i = nI (LL.length - i) from by rw [show (setMa T 25 r).1 24 = nI LL.length from hLn]; exact pk_sub (by omega)]
      refine r_idiv (pc := 29) C dX1_layOrder_29 (fun e => absurd ((nI_eq (b := 0) (by omega) (by decide)).mp e) (by omega)) ?_
      rw [pk_div (by omega) (by omega) (by omega), ← hm1]
      refine r_istore (pc := 30) C dX1_layOrder_30 (by decide) ?_
      refine r_iload_n (pc := 32) C dX1_layOrder_32 rfl ?_
      refine r_iload (pc := 33) C dX1_layOrder_33 rfl ?_
      refine r_idiv (pc := 35) C dX1_layOrder_35 (fun e => absurd ((nI_eq (b := 0) (by omega) (by decide)).mp e) (by omega)) ?_
      rw [pk_div (by omega) hm0 (by omega)]
      refine r_istore (pc := 36) C dX1_layOrder_36 (by decide) ?_
      refine r_iload_n (pc := 38) C dX1_layOrder_38 rfl ?_
      refine r_iload (pc := 39) C dX1_layOrder_39 rfl ?_
      refine r_irem (pc := 41) C dX1_layOrder_41 (fun e => absurd ((nI_eq (b := 0) (by omega) (by decide)).mp e) (by omega)) ?_
      rw [pk_rem (by omega) hm0 (by omega)]
      refine r_istore_n (pc := 42) C dX1_layOrder_42 (by decide) ?_
      refine r_iconst (pc := 43) (0) C dX1_layOrder_43 (by decide) ?_
      refine r_istore (pc := 44) C dX1_layOrder_44 (by decide) ?_
      obtain ⟨A1, hA1⟩ : ∃ A1, A1 = loA q m1 := ⟨_, rfl⟩
      rw [← hA1] at hat hwh
      refine V_ind (P := fun f k => ∀ s, wh f q.2.2.1 s k = some A1 → s < 1000 → V E 9 0 0 (wM G a (setMa T 25 r)) 46 [some (.ref (a 0)), some (.int (nI c)), some (.int (nI (fct LL.length))), some (.int (nI (q.1 % m1))), some (.int (nI m1)), some (.int q.2.2.1), some (.int (nI i)), some (.int (nI s)), some (.int (nI k))] []) 6 (fun f k hk K46 s hwh hs => ?_) 6 0 rfl _ hwh (by omega)
      · refine r_iload (pc := 46) C dX1_layOrder_46 rfl ?_
        refine r_iload (pc := 48) C dX1_layOrder_48 rfl ?_
        refine S_cQi (pc := 50) C (cM_has B _ _) q873 mX1_has rfl dX1_layOrder_50 (by decide) (Nat.le_of_ble_eq_true rfl) ?_
        refine r_if_ne (pc := 53) 61 C dX1_layOrder_53 (by decide) (fun c53 => ?_) (fun c53 => ?_)
        · refine r_iload (pc := 61) C dX1_layOrder_61 rfl ?_
          refine r_iload (pc := 63) C dX1_layOrder_63 rfl ?_
          refine r_iload (pc := 65) C dX1_layOrder_65 rfl ?_
          refine S_cQi (pc := 67) C (cM_has B _ _) q873 mX1_has rfl dX1_layOrder_67 (by decide) (Nat.le_of_ble_eq_true rfl) ?_
          refine r_if_eq (pc := 70) 77 C dX1_layOrder_70 (by decide) (fun c70 => ?_) (fun c70 => ?_)
          · refine r_iconst (pc := 77) (1) C dX1_layOrder_77 (by decide) ?_
            refine r_isub (pc := 78) C dX1_layOrder_78 ?_
            refine r_istore (pc := 79) C dX1_layOrder_79 (by decide) ?_
            refine r_iinc (pc := 81) _ C dX1_layOrder_81 rfl (nI_1 k) (by decide) ?_
            refine r_goto (pc := 84) 46 C dX1_layOrder_84 (by decide) ?_
            exact absurd c70 c53
          · refine r_iconst (pc := 73) (0) C dX1_layOrder_73 (by decide) ?_
            refine r_goto (pc := 74) 78 C dX1_layOrder_74 (by decide) ?_
            refine r_isub (pc := 78) C dX1_layOrder_78 ?_
            refine r_istore (pc := 79) C dX1_layOrder_79 (by decide) ?_
            refine r_iinc (pc := 81) _ C dX1_layOrder_81 rfl (nI_1 k) (by decide) ?_
            refine r_goto (pc := 84) 46 C dX1_layOrder_84 (by decide) ?_
            rw [sub_z]
            exact K46 (whf hwh) s (by rw [← wh_1 hwh c53]; exact hwh) hs
        · refine r_iload (pc := 56) C dX1_layOrder_56 rfl ?_
          refine r_if_le (pc := 58) 87 C dX1_layOrder_58 (by decide) (fun c58 => ?_) (fun c58 => ?_)
          · have hs0 : s = 0 := by
                have h1 := (nI_leI (b := 0) (by omega) (by decide)).mp c58
                omega
            have hkA := wh_3 hwh c53 hs0
            subst hkA
            refine r_iload (pc := 87) C dX1_layOrder_87 rfl ?_
            refine r_iconst (pc := 89) (1) C dX1_layOrder_89 (by decide) ?_
            refine r_iload (pc := 90) C dX1_layOrder_90 rfl ?_
            refine r_ishl (pc := 92) C dX1_layOrder_92 ?_
            refine r_ior (pc := 93) C dX1_layOrder_93 ?_
            refine r_istore (pc := 94) C dX1_layOrder_94 (by decide) ?_
            refine r_aload_n (pc := 96) C dX1_layOrder_96 rfl ?_
            refine M_g25 (pc := 97) C dX1_layOrder_97 ?_
            refine r_iload (pc := 100) C dX1_layOrder_100 rfl ?_
            refine r_aload_n (pc := 102) C dX1_layOrder_102 rfl ?_
            refine M_g23 (pc := 103) C dX1_layOrder_103 ?_
            refine r_iload (pc := 106) C dX1_layOrder_106 rfl ?_
            refine M_l23 (pc := 108) C dX1_layOrder_108 (vp_in_nI (by omega) (by decide)) ?_
            rw [show (setMa T 25 r).2.2 23 (nI A1).toNatClampNeg = nI (LL.getD A1 0) from by rw [nI_clamp (by omega)]; exact hLa A1 hat]
            refine M_s25 (pc := 109) C dX1_layOrder_109 (vp_in_nI (by omega) (by decide)) ?_
            rw [nI_clamp (show i < 2 ^ 31 by omega)]
            have hpush : LOk ((q.2.2.2 ++ [A1]).map (fun x => LL.getD x 0)) (upd r i (nI (LL.getD A1 0))) := by
              rw [List.map_append]
              have h1 := hr.push (LL.getD A1 0)
              rw [List.length_map, hlen] at h1
              exact h1
            have loF_e : loF LL.length i q = (q.1 % m1, m1, q.2.2.1 ||| (1 : Int32) <<< (nI A1 &&& 31), q.2.2.2 ++ [A1]) := by
              unfold loF
              rw [← hm1, ← hA1]
            refine r_iinc (pc := 110) _ C dX1_layOrder_110 rfl (nI_1 i) (by decide) ?_
            refine r_goto (pc := 113) 11 C dX1_layOrder_113 (by decide) ?_
            rw [loF_e] at K11
            refine V_w (congrArg (wM G a) (setMa_2 T 25 r _)) ?_
            refine V_sub ?_ (K11 _ hpush)
            intro q1 hq1
            simp only [lset, lset2, lvo, lkill, List.mem_cons, List.not_mem_nil, or_false] at hq1 ⊢
            rcases hq1 with h | h | h | h | h | h | h <;> first | (simp [h]; done) | (simp [h]; rfl)
          · have hs0 : ¬ s = 0 := fun e => c58 (by rw [e]; decide)
            refine r_iload (pc := 61) C dX1_layOrder_61 rfl ?_
            refine r_iload (pc := 63) C dX1_layOrder_63 rfl ?_
            refine r_iload (pc := 65) C dX1_layOrder_65 rfl ?_
            refine S_cQi (pc := 67) C (cM_has B _ _) q873 mX1_has rfl dX1_layOrder_67 (by decide) (Nat.le_of_ble_eq_true rfl) ?_
            refine r_if_eq (pc := 70) 77 C dX1_layOrder_70 (by decide) (fun c70 => ?_) (fun c70 => ?_)
            · refine r_iconst (pc := 77) (1) C dX1_layOrder_77 (by decide) ?_
              refine r_isub (pc := 78) C dX1_layOrder_78 ?_
              refine r_istore (pc := 79) C dX1_layOrder_79 (by decide) ?_
              refine r_iinc (pc := 81) _ C dX1_layOrder_81 rfl (nI_1 k) (by decide) ?_
              refine r_goto (pc := 84) 46 C dX1_layOrder_84 (by decide) ?_
              rw [show nI s - 1 = nI (s - 1) from pk_sub (b := 1) (by omega)]
              exact K46 (whf hwh) (s - 1) (by rw [← wh_2 hwh c53 (by omega)]; exact hwh) (by omega)
            · refine r_iconst (pc := 73) (0) C dX1_layOrder_73 (by decide) ?_
              refine r_goto (pc := 74) 78 C dX1_layOrder_74 (by decide) ?_
              refine r_isub (pc := 78) C dX1_layOrder_78 ?_
              refine r_istore (pc := 79) C dX1_layOrder_79 (by decide) ?_
              refine r_iinc (pc := 81) _ C dX1_layOrder_81 rfl (nI_1 k) (by decide) ?_
              refine r_goto (pc := 84) 46 C dX1_layOrder_84 (by decide) ?_
              exact absurd c53 c70
  · refine r_iload (pc := 11) C dX1_layOrder_11 rfl ?_
    refine r_aload_n (pc := 13) C dX1_layOrder_13 rfl ?_
    refine M_g24 (pc := 14) C dX1_layOrder_14 ?_
    refine r_icmp_ge (pc := 17) 116 C dX1_layOrder_17 (by decide) (fun c17 => ?_) (fun c17 => ?_)
    · exact r_vret (pc := 116) C hR dX1_layOrder_116 (by decide) (by decide) ⟨r, rfl, hr⟩
    · exact absurd (show T.1 24 ≤ nI LL.length by rw [hLn]; exact Int32.le_refl _) c17

