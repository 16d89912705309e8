
set_option maxRecDepth 100000
def llist (b : Int32) (n : Nat) : List Nat := (List.range n).filter (fun j => decide (jhas b (nI j) = 0))
theorem llist_s (b : Int32) (n : Nat) : llist b (n + 1) = if jhas b (nI n) = 0 then llist b n ++ [n] else llist b n := by
  unfold llist
  rw [List.range_succ, List.filter_append]
  by_cases h : jhas b (nI n) = 0
  · rw [if_pos h]; simp [h]
  · rw [if_neg h]; simp [h]
theorem llist_le (b : Int32) (n : Nat) : (llist b n).length ≤ n := by
  have h := List.length_filter_le (fun j => decide (jhas b (nI j) = 0)) (List.range n)
  rw [List.length_range] at h
  exact h
theorem llist_lt {b : Int32} {n x : Nat} (h : x ∈ llist b n) : x < n := List.mem_range.mp (List.mem_filter.mp h).1
def LOk (LL : List Nat) (arr : Nat → Int32) : Prop := ∀ k, k < LL.length → arr k = nI (LL.getD k 0)
theorem LOk.push {LL : List Nat} {arr : Nat → Int32} (h : LOk LL arr) (x : Nat) : LOk (LL ++ [x]) (upd arr LL.length (nI x)) := by
  intro k hk
  rw [List.length_append, List.length_singleton] at hk
  unfold upd
  by_cases e : k = LL.length
  · rw [if_pos e, e]
    simp
  · rw [if_neg e, h k (by omega)]
    congr 1
    simp [List.getD, List.getElem?_append, show k < LL.length by omega]
theorem getD_mem {LL : List Nat} {k : Nat} (h : k < LL.length) : LL.getD k 0 ∈ LL := by
  simp [List.getD, List.getElem?_eq_getElem h]
def m_ls (T : StM) (arr : Nat → Int32) (n : Int32) : StM := setMi (setMa T 23 arr) 24 n
theorem up_id {α : Type} (f : Nat → α) (k : Nat) : va_up f k (f k) = f := by
  funext j
  unfold va_up
  split
  · rename_i e; rw [e]
  · rfl
theorem upd_id (f : Nat → Int32) (k : Nat) : upd f k (f k) = f := by
  funext j
  unfold upd
  split
  · rename_i e; rw [e]
  · rfl
theorem upd_upd (f : Nat → Int32) (k : Nat) (x y : Int32) : upd (upd f k x) k y = upd f k y := by
  funext j
  unfold upd
  split <;> rfl
theorem m_ls_id (T : StM) (n : Int32) : setMi T 24 n = m_ls T (mar T 23) n := by
  unfold m_ls setMi setMa
  rw [up_id]
theorem m_ls_push (T : StM) (arr : Nat → Int32) (len i : Nat) (h : len < 5) : setMi (setMa (m_ls T arr (nI len)) 23 (upd arr (nI len).toNatClampNeg (nI i))) 24 (nI len + 1) = m_ls T (upd arr len (nI i)) (nI (len + 1)) := by
  rw [nI_clamp (by omega), nI_1]
  unfold m_ls setMi setMa
  rw [up_up, up_up]
def bIx (T : StM) (p : Int32) : Nat := (mar T 9 p.toNatClampNeg).toNatClampNeg
def fIx (T : StM) (p : Int32) : Nat := (3 * p + mar T 9 p.toNatClampNeg).toNatClampNeg
def m_sv (T : StM) (p : Int32) : StM := setMi (setMi T 21 (mar T 5 (bIx T p))) 22 (mar T 11 (fIx T p))
def m_ldp (T : StM) (p : Int32) : StM := setMa (setMa T 5 (upd (mar T 5) (bIx T p) (T.1 21))) 11 (upd (mar T 11) (fIx T p) (T.1 22))
def m_vf (T : StM) (p s f : Int32) : StM := setMa (setMa (m_sv T p) 5 (upd (mar T 5) (bIx T p) s)) 11 (upd (mar T 11) (fIx T p) f)
theorem m_vf_id (T : StM) (p : Int32) : m_sv T p = m_vf T p (mar T 5 (bIx T p)) (mar T 11 (fIx T p)) := by
  unfold m_vf
  rw [upd_id, upd_id]
  unfold setMa
  show m_sv T p = (_, _, va_up (va_up (m_sv T p).2.2 5 ((m_sv T p).2.2 5)) 11 ((m_sv T p).2.2 11))
  rw [up_id, up_id]
theorem fail_vf (T : StM) (p s f : Int32) (l : Nat) (hl : l < 5) : m_fail (m_vf T p s f) p (nI l) = m_vf T p (s + mar T 4 l) (fondNext (T.1 2) f (s + mar T 4 l)) := by
  have e1 : mar (m_vf T p s f) 5 (bIx T p) = s := by show upd (mar T 5) (bIx T p) s (bIx T p) = s; exact pk_us
  have e2 : mar (m_vf T p s f) 11 (fIx T p) = f := by show upd (mar T 11) (fIx T p) f (fIx T p) = f; exact pk_us
  have e3 : mar (m_beat (m_vf T p s f) p (nI l)) 5 (bIx T p) = s + mar T 4 l := by
    show upd (mar (m_vf T p s f) 5) (bIx T p) (mar (m_vf T p s f) 5 (bIx T p) + mar T 4 (nI l).toNatClampNeg) (bIx T p) = _
    rw [pk_us, e1, nI_clamp (by omega)]
  unfold m_fail
  rw [show m_fondOf (m_vf T p s f) p = f from e2, show (m_vf T p s f).1 2 = T.1 2 from rfl, show mar (m_beat (m_vf T p s f) p (nI l)) 5 (mar (m_vf T p s f) 9 p.toNatClampNeg).toNatClampNeg = s + mar T 4 l from e3]
  unfold m_beat
  rw [show mar (m_vf T p s f) 5 (mar (m_vf T p s f) 9 p.toNatClampNeg).toNatClampNeg = s from e1, nI_clamp (by omega)]
  unfold m_vf setMa
  show ((m_sv T p).1, (m_sv T p).2.1, va_up (va_up (va_up (va_up (m_sv T p).2.2 5 (upd (mar T 5) (bIx T p) s)) 11 (upd (mar T 11) (fIx T p) f)) 5 (upd (upd (mar T 5) (bIx T p) s) (bIx T p) (s + mar T 4 l))) 11 (upd (upd (mar T 11) (fIx T p) f) (fIx T p) (fondNext (T.1 2) f (s + mar T 4 l)))) = ((m_sv T p).1, (m_sv T p).2.1, va_up (va_up (m_sv T p).2.2 5 (upd (mar T 5) (bIx T p) (s + mar T 4 l))) 11 (upd (mar T 11) (fIx T p) (fondNext (T.1 2) f (s + mar T 4 l))))
  rw [upd_upd, upd_upd, up_comm _ (by decide : ¬ 11 = 5), up_up, up_up]
theorem ld_vf (T : StM) (p s f : Int32) : m_ldp (m_vf T p s f) p = m_sv T p := by
  unfold m_ldp m_vf setMa
  show ((m_sv T p).1, (m_sv T p).2.1, va_up (va_up (va_up (va_up (m_sv T p).2.2 5 (upd (mar T 5) (bIx T p) s)) 11 (upd (mar T 11) (fIx T p) f)) 5 (upd (upd (mar T 5) (bIx T p) s) (bIx T p) (mar T 5 (bIx T p)))) 11 (upd (upd (mar T 11) (fIx T p) f) (fIx T p) (mar T 11 (fIx T p)))) = m_sv T p
  rw [upd_upd, upd_upd, upd_id, upd_id, up_comm _ (by decide : ¬ 11 = 5), up_up, up_up]
  show ((m_sv T p).1, (m_sv T p).2.1, va_up (va_up (m_sv T p).2.2 5 ((m_sv T p).2.2 5)) 11 ((m_sv T p).2.2 11)) = m_sv T p
  rw [up_id, up_id]
theorem tn_vf (T : StM) (p s f l : Int32) : m_tenthsNow (m_vf T p s f) p l = m_tenthsBy T p l f := by
  unfold m_tenthsNow
  rw [show m_fondOf (m_vf T p s f) p = f from (by show upd (mar T 11) (fIx T p) f (fIx T p) = f; exact pk_us)]
  rfl
theorem IM_vf {T : StM} (h : IM T) (p s : Int32) {f : Int32} (hf : Rg f 9) : IM (m_vf T p s f) := by
  obtain ⟨h1, h2, h3, h4, h5, h6, h7⟩ := h
  refine ⟨h1, h2, h3, h4, h5, fun j hj => ⟨?_, (h6 j hj).2⟩, h7⟩
  show Rg (upd (mar T 11) _ _ j) 9
  unfold upd
  split
  · exact hf
  · exact (h6 j hj).1
def m_cf1 (T : StM) (p set : Int32) (l : Nat) (q : Int32 × Int32 × Int32 × Int32) : Int32 := if q.1 = 0 then 0 else if jhas set (nI l) = 0 then (if m_tenthsBy T p (nI l) q.2.2.2 = 0 then 0 else 1) else (if m_tenthsBy T p (nI l) q.2.2.2 = 10 then 0 else 1)
def m_cfL (T : StM) (p set : Int32) (l : Nat) (q : Int32 × Int32 × Int32 × Int32) : Int32 × Int32 × Int32 × Int32 := if jhas set (nI l) = 0 then (m_cf1 T p set l q, q.2) else (m_cf1 T p set l q, q.2.1 + mar T 4 l, q.2.2.1 + mar T 4 l, fondNext (T.1 2) q.2.2.2 (q.2.2.1 + mar T 4 l))
def m_cf (T : StM) (p set : Int32) (LL : List Nat) (k : Nat) (q : Int32 × Int32 × Int32 × Int32) : Int32 × Int32 × Int32 × Int32 := m_cfL T p set (LL.getD k 0) q
def m_cq (T : StM) (p set : Int32) (LL : List Nat) (n : Nat) : Int32 × Int32 × Int32 × Int32 := nf (m_cf T p set LL) n (1, 0, mar T 5 (bIx T p), mar T 11 (fIx T p))
def m_couldFail (T : StM) (p set st : Int32) (LL : List Nat) : Int32 := if (m_cq T p set LL LL.length).1 = 0 then 0 else if (m_cq T p set LL LL.length).2.1 = st then 1 else 0
theorem cq_rg {T : StM} (hI : IM T) {p : Int32} (hp : vp_in p 3) (set : Int32) (LL : List Nat) : ∀ n, Rg (m_cq T p set LL n).2.2.2 9 := by
  intro n
  induction n with
  | zero =>
    have h := vin9p hp (hI.boy hp)
    exact (hI.2.2.2.2.2.1 _ (vp_lt h (by decide)).1).1
  | succ n ih =>
    show Rg (m_cfL T p set (LL.getD n 0) (m_cq T p set LL n)).2.2.2 9
    unfold m_cfL
    split
    · exact ih
    · exact fondNext_rg _ _ _

set_option maxHeartbeats 4000000 in
theorem cM_layLeft {G : Gx} (B : Base G) (a : Nat → Nat) (T : StM) (p : Int32) (hI : IM T) (hp : vp_in p 3) : Cv G yX1_layLeft cX1_layLeft 3 (rmD 1) (wM G a) T [.ref (a 0), .int p] (fun S' => ∃ arr, S' = m_ls T arr (nI (llist (mar T 10 p.toNatClampNeg) (T.1 1).toNatClampNeg).length) ∧ LOk (llist (mar T 10 p.toNatClampNeg) (T.1 1).toNatClampNeg) arr) := by
  refine Cv.of B [some (.ref (a 0)), some (.int p), none] (by decide) rfl (Nat.le_of_ble_eq_true rfl) (fun E C hR => ?_)
  have C : CxOk E RX1 cX1_layLeft 3 G (rmD 1) := C
  refine r_aload_n (pc := 0) C dX1_layLeft_0 rfl ?_
  refine r_iconst (pc := 1) (0) C dX1_layLeft_1 (by decide) ?_
  refine M_p24 (pc := 2) C dX1_layLeft_2 ?_
  refine r_iconst (pc := 5) (0) C dX1_layLeft_5 (by decide) ?_
  refine r_istore_n (pc := 6) C dX1_layLeft_6 (by decide) ?_
  refine V_w (congrArg (wM G a) (m_ls_id T 0)) ?_
  refine V_cnt (P := fun i => ∀ arr, LOk (llist (mar T 10 p.toNatClampNeg) i) arr → V E 3 0 0 (wM G a (m_ls T arr (nI (llist (mar T 10 p.toNatClampNeg) i).length))) 7 [some (.ref (a 0)), some (.int p), some (.int (nI i))] []) (T.1 1).toNatClampNeg (fun i hi K7 arr h => ?_) (fun arr h => ?_) _ (fun k hk => absurd hk (Nat.not_lt_zero k))
  · have hi5 : i < 5 := Nat.lt_of_lt_of_le hi hI.les.2
    have hle := llist_le (mar T 10 p.toNatClampNeg) i
    have hv : vp_in (nI (llist (mar T 10 p.toNatClampNeg) i).length) 5 := vp_in_nI (by omega) (by decide)
    refine r_iload_n (pc := 7) C dX1_layLeft_7 rfl ?_
    refine r_aload_n (pc := 8) C dX1_layLeft_8 rfl ?_
    refine M_g1 (pc := 9) C dX1_layLeft_9 ?_
    refine r_icmp_ge (pc := 12) 54 C dX1_layLeft_12 (by decide) (fun c12 => ?_) (fun c12 => ?_)
    · exact absurd c12 (lp_in hI.les (by decide) hi)
    · refine r_aload_n (pc := 15) C dX1_layLeft_15 rfl ?_
      refine M_g10 (pc := 16) C dX1_layLeft_16 ?_
      refine r_iload_n (pc := 19) C dX1_layLeft_19 rfl ?_
      refine M_l10 (pc := 20) C dX1_layLeft_20 (by assumption) ?_
      refine r_iload_n (pc := 21) C dX1_layLeft_21 rfl ?_
      refine S_cQi (pc := 22) C (cM_has B _ _) q873 mX1_has rfl dX1_layLeft_22 (by decide) (Nat.le_of_ble_eq_true rfl) ?_
      refine r_if_ne (pc := 25) 48 C dX1_layLeft_25 (by decide) (fun c25 => ?_) (fun c25 => ?_)
      · refine r_iinc (pc := 48) _ C dX1_layLeft_48 rfl (nI_1 i) (by decide) ?_
        refine r_goto (pc := 51) 7 C dX1_layLeft_51 (by decide) ?_
        rw [show llist (mar T 10 p.toNatClampNeg) (i + 1) = llist (mar T 10 p.toNatClampNeg) i from (llist_s _ _).trans (if_neg c25)] at K7
        exact K7 arr h
      · refine r_aload_n (pc := 28) C dX1_layLeft_28 rfl ?_
        refine M_g23 (pc := 29) C dX1_layLeft_29 ?_
        refine r_aload_n (pc := 32) C dX1_layLeft_32 rfl ?_
        refine M_g24 (pc := 33) C dX1_layLeft_33 ?_
        refine r_iload_n (pc := 36) C dX1_layLeft_36 rfl ?_
        refine M_s23 (pc := 37) C dX1_layLeft_37 hv ?_
        refine r_aload_n (pc := 38) C dX1_layLeft_38 rfl ?_
        refine r_dup (pc := 39) C dX1_layLeft_39 rfl ?_
        refine M_g24 (pc := 40) C dX1_layLeft_40 ?_
        refine r_iconst (pc := 43) (1) C dX1_layLeft_43 (by decide) ?_
        refine r_iadd (pc := 44) C dX1_layLeft_44 ?_
        refine M_p24 (pc := 45) C dX1_layLeft_45 ?_
        refine r_iinc (pc := 48) _ C dX1_layLeft_48 rfl (nI_1 i) (by decide) ?_
        refine r_goto (pc := 51) 7 C dX1_layLeft_51 (by decide) ?_
        rw [show llist (mar T 10 p.toNatClampNeg) (i + 1) = llist (mar T 10 p.toNatClampNeg) i ++ [i] from (llist_s _ _).trans (if_pos c25), List.length_append, List.length_singleton] at K7
        refine V_w (congrArg (wM G a) (m_ls_push T arr _ i (by omega))) ?_
        exact K7 _ (h.push i)
  · refine r_iload_n (pc := 7) C dX1_layLeft_7 rfl ?_
    refine r_aload_n (pc := 8) C dX1_layLeft_8 rfl ?_
    refine M_g1 (pc := 9) C dX1_layLeft_9 ?_
    refine r_icmp_ge (pc := 12) 54 C dX1_layLeft_12 (by decide) (fun c12 => ?_) (fun c12 => ?_)
    · exact r_vret (pc := 54) C hR dX1_layLeft_54 (by decide) (by decide) ⟨arr, rfl, h⟩
    · exact absurd (lp_out hI.les (by decide)) c12

set_option maxHeartbeats 4000000 in
theorem cM_save {G : Gx} (B : Base G) (a : Nat → Nat) (T : StM) (p : Int32) (hI : IM T) (hp : vp_in p 3) : Cv G yX1_save cX1_save 2 (rmD 0) (wM G a) T [.ref (a 0), .int p] (fun S' => S' = m_sv T p) := by
  refine Cv.of B [some (.ref (a 0)), some (.int p)] (by decide) rfl (Nat.le_of_ble_eq_true rfl) (fun E C hR => ?_)
  have C : CxOk E RX1 cX1_save 2 G (rmD 0) := C
  have hb := hI.boy hp
  have hbi : vp_in (mar T 9 p.toNatClampNeg) 3 := hb.in (by decide) (by decide)
  have hv9 := vin9p hp hb
  refine r_aload_n (pc := 0) C dX1_save_0 rfl ?_
  refine r_aload_n (pc := 1) C dX1_save_1 rfl ?_
  refine M_g5 (pc := 2) C dX1_save_2 ?_
  refine r_aload_n (pc := 5) C dX1_save_5 rfl ?_
  refine M_g9 (pc := 6) C dX1_save_6 ?_
  refine r_iload_n (pc := 9) C dX1_save_9 rfl ?_
  refine M_l9 (pc := 10) C dX1_save_10 (by assumption) ?_
  refine M_l5 (pc := 11) C dX1_save_11 (by assumption) ?_
  refine M_p21 (pc := 12) C dX1_save_12 ?_
  refine r_aload_n (pc := 15) C dX1_save_15 rfl ?_
  refine r_aload_n (pc := 16) C dX1_save_16 rfl ?_
  refine M_g11 (pc := 17) C dX1_save_17 ?_
  refine r_iconst (pc := 20) (3) C dX1_save_20 (by decide) ?_
  refine r_iload_n (pc := 21) C dX1_save_21 rfl ?_
  refine r_imul (pc := 22) C dX1_save_22 ?_
  refine r_aload_n (pc := 23) C dX1_save_23 rfl ?_
  refine M_g9 (pc := 24) C dX1_save_24 ?_
  refine r_iload_n (pc := 27) C dX1_save_27 rfl ?_
  refine M_l9 (pc := 28) C dX1_save_28 (by assumption) ?_
  refine r_iadd (pc := 29) C dX1_save_29 ?_
  refine M_l11 (pc := 30) C dX1_save_30 (by assumption) ?_
  refine M_p22 (pc := 31) C dX1_save_31 ?_
  exact r_vret (pc := 34) C hR dX1_save_34 (by decide) (by decide) rfl

set_option maxHeartbeats 4000000 in
theorem cM_load {G : Gx} (B : Base G) (a : Nat → Nat) (T : StM) (p : Int32) (hI : IM T) (hp : vp_in p 3) : Cv G yX1_load cX1_load 2 (rmD 0) (wM G a) T [.ref (a 0), .int p] (fun S' => S' = m_ldp T p) := by
  refine Cv.of B [some (.ref (a 0)), some (.int p)] (by decide) rfl (Nat.le_of_ble_eq_true rfl) (fun E C hR => ?_)
  have C : CxOk E RX1 cX1_load 2 G (rmD 0) := C
  have hb := hI.boy hp
  have hbi : vp_in (mar T 9 p.toNatClampNeg) 3 := hb.in (by decide) (by decide)
  have hv9 := vin9p hp hb
  refine r_aload_n (pc := 0) C dX1_load_0 rfl ?_
  refine M_g5 (pc := 1) C dX1_load_1 ?_
  refine r_aload_n (pc := 4) C dX1_load_4 rfl ?_
  refine M_g9 (pc := 5) C dX1_load_5 ?_
  refine r_iload_n (pc := 8) C dX1_load_8 rfl ?_
  refine M_l9 (pc := 9) C dX1_load_9 (by assumption) ?_
  refine r_aload_n (pc := 10) C dX1_load_10 rfl ?_
  refine M_g21 (pc := 11) C dX1_load_11 ?_
  refine M_s5 (pc := 14) C dX1_load_14 (by assumption) ?_
  refine r_aload_n (pc := 15) C dX1_load_15 rfl ?_
  refine M_g11 (pc := 16) C dX1_load_16 ?_
  refine r_iconst (pc := 19) (3) C dX1_load_19 (by decide) ?_
  refine r_iload_n (pc := 20) C dX1_load_20 rfl ?_
  refine r_imul (pc := 21) C dX1_load_21 ?_
  refine r_aload_n (pc := 22) C dX1_load_22 rfl ?_
  refine M_g9 (pc := 23) C dX1_load_23 ?_
  refine r_iload_n (pc := 26) C dX1_load_26 rfl ?_
  refine M_l9 (pc := 27) C dX1_load_27 (by assumption) ?_
  refine r_iadd (pc := 28) C dX1_load_28 ?_
  refine r_aload_n (pc := 29) C dX1_load_29 rfl ?_
  refine M_g22 (pc := 30) C dX1_load_30 ?_
  refine M_s11 (pc := 33) C dX1_load_33 (by assumption) ?_
  exact r_vret (pc := 34) C hR dX1_load_34 (by decide) (by decide) rfl

set_option maxHeartbeats 4000000 in
theorem cM_couldFail {G : Gx} (B : Base G) (a : Nat → Nat) (T : StM) (p set st : Int32) (hI : IM T) (hp : vp_in p 3) (LL : List Nat) (hLn : T.1 24 = nI LL.length) (hLa : LOk LL (mar T 23)) (hL5 : ∀ x, x ∈ LL → x < 5) (hLl : LL.length ≤ 5) : Ci G yX1_couldFail cX1_couldFail 8 .boolean (rmD 3) (wM G a) T [.ref (a 0), .int p, .int set, .int st] (fun r S' => r = m_couldFail T p set st LL ∧ S' = m_sv T p) := by
  refine Ci.of B [some (.ref (a 0)), some (.int p), some (.int set), some (.int st), none, none, none, none] (by decide) rfl (Nat.le_of_ble_eq_true rfl) (fun E C hR => ?_)
  have C : CxOk E RX1 cX1_couldFail 8 G (rmD 3) := C
  refine r_aload_n (pc := 0) C dX1_couldFail_0 rfl ?_
  refine r_iload_n (pc := 1) C dX1_couldFail_1 rfl ?_
  refine M_cQv (pc := 2) C (cM_save B a _ _ (by assumption) (by assumption)) q967 mX1_save rfl dX1_couldFail_2 (by decide) (Nat.le_of_ble_eq_true rfl) ?_
  refine r_iconst (pc := 5) (1) C dX1_couldFail_5 (by decide) ?_
  refine r_istore (pc := 6) C dX1_couldFail_6 (by decide) ?_
  refine r_iconst (pc := 8) (0) C dX1_couldFail_8 (by decide) ?_
  refine r_istore (pc := 9) C dX1_couldFail_9 (by decide) ?_
  refine r_iconst (pc := 11) (0) C dX1_couldFail_11 (by decide) ?_
  refine r_istore (pc := 12) C dX1_couldFail_12 (by decide) ?_
  refine V_w (congrArg (wM G a) (m_vf_id T p)) ?_
  refine V_for (P := fun i q => V E 8 0 0 (wM G a (m_vf T p q.2.2.1 q.2.2.2)) 14 [some (.ref (a 0)), some (.int p), some (.int set), some (.int st), some (.int q.1), some (.int q.2.1), some (.int (nI i)), none] []) (m_cf T p set LL) (1, 0, mar T 5 (bIx T p), mar T 11 (fIx T p)) LL.length (fun i hi K14 => ?_) ?_
  · have hR9 : Rg (nf (m_cf T p set LL) i (1, 0, mar T 5 (bIx T p), mar T 11 (fIx T p))).2.2.2 9 := cq_rg hI hp set LL i
    simp only [nf] at K14
    generalize nf (m_cf T p set LL) i (1, 0, mar T 5 (bIx T p), mar T 11 (fIx T p)) = q at K14 hR9 ⊢
    have hIZ : IM (m_vf T p q.2.2.1 q.2.2.2) := IM_vf hI p _ hR9
    have hv5 : vp_in (nI i) 5 := vp_in_nI (by omega) (by decide)
    have hl5 : LL.getD i 0 < 5 := hL5 _ (getD_mem hi)
    have hlv : vp_in (nI (LL.getD i 0)) 5 := vp_in_nI hl5 (by decide)
    have hl : (m_vf T p q.2.2.1 q.2.2.2).2.2 23 (nI i).toNatClampNeg = nI (LL.getD i 0) := by rw [nI_clamp (by omega)]; exact hLa i hi
    refine r_iload (pc := 14) C dX1_couldFail_14 rfl ?_
    refine r_aload_n (pc := 16) C dX1_couldFail_16 rfl ?_
    refine M_g24 (pc := 17) C dX1_couldFail_17 ?_
    refine r_icmp_ge (pc := 20) 114 C dX1_couldFail_20 (by decide) (fun c20 => ?_) (fun c20 => ?_)
    · have c20 : T.1 24 ≤ nI i := c20
      rw [hLn] at c20
      exact absurd c20 (nI_ge hi (by omega))
    · refine r_iload_n (pc := 23) C dX1_couldFail_23 rfl ?_
      refine r_aload_n (pc := 24) C dX1_couldFail_24 rfl ?_
      refine M_g23 (pc := 25) C dX1_couldFail_25 ?_
      refine r_iload (pc := 28) C dX1_couldFail_28 rfl ?_
      refine M_l23 (pc := 30) C dX1_couldFail_30 (by assumption) ?_
      rw [hl]
      refine S_cQi (pc := 31) C (cM_has B _ _) q873 mX1_has rfl dX1_couldFail_31 (by decide) (Nat.le_of_ble_eq_true rfl) ?_
      refine r_istore (pc := 34) C dX1_couldFail_34 (by decide) ?_
      refine r_iload (pc := 36) C dX1_couldFail_36 rfl ?_
      refine r_if_eq (pc := 38) 71 C dX1_couldFail_38 (by decide) (fun c38 => ?_) (fun c38 => ?_)
      · refine r_iconst (pc := 71) (0) C dX1_couldFail_71 (by decide) ?_
        refine r_istore (pc := 72) C dX1_couldFail_72 (by decide) ?_
        refine r_iload (pc := 74) C dX1_couldFail_74 rfl ?_
        refine r_if_eq (pc := 76) 108 C dX1_couldFail_76 (by decide) (fun c76 => ?_) (fun c76 => ?_)
        · refine r_iinc (pc := 108) _ C dX1_couldFail_108 rfl (nI_1 i) (by decide) ?_
          refine r_goto (pc := 111) 14 C dX1_couldFail_111 (by decide) ?_
          have e1 : m_cf1 T p set (LL.getD i 0) q = _ := if_pos c38
          have e2 : m_cf T p set LL i q = _ := if_pos c76
          rw [e1] at e2
          rw [e2] at K14
          refine V_sub ?_ K14
          intro q1 hq1
          simp only [lset, lset2, lvo, lkill, List.mem_cons, List.not_mem_nil, or_false] at hq1 ⊢
          rcases hq1 with h | h | h | h | h | h | h <;> first | (simp [h]; done) | (simp [h]; rfl)
        · refine r_iload (pc := 79) C dX1_couldFail_79 rfl ?_
          refine r_aload_n (pc := 81) C dX1_couldFail_81 rfl ?_
          refine M_g4 (pc := 82) C dX1_couldFail_82 ?_
          refine r_aload_n (pc := 85) C dX1_couldFail_85 rfl ?_
          refine M_g23 (pc := 86) C dX1_couldFail_86 ?_
          refine r_iload (pc := 89) C dX1_couldFail_89 rfl ?_
          refine M_l23 (pc := 91) C dX1_couldFail_91 (by assumption) ?_
          rw [hl]
          refine M_l4 (pc := 92) C dX1_couldFail_92 (by assumption) ?_
          rw [nI_clamp (Nat.lt_trans hl5 (by decide))]
          refine r_iadd (pc := 93) C dX1_couldFail_93 ?_
          refine r_istore (pc := 94) C dX1_couldFail_94 (by decide) ?_
          refine r_aload_n (pc := 96) C dX1_couldFail_96 rfl ?_
          refine r_iload_n (pc := 97) C dX1_couldFail_97 rfl ?_
          refine r_aload_n (pc := 98) C dX1_couldFail_98 rfl ?_
          refine M_g23 (pc := 99) C dX1_couldFail_99 ?_
          refine r_iload (pc := 102) C dX1_couldFail_102 rfl ?_
          refine M_l23 (pc := 104) C dX1_couldFail_104 (by assumption) ?_
          rw [hl]
          refine M_cQv (pc := 105) C (cM_fails B a _ _ _ (by assumption) (by assumption) (by assumption)) q935 mX1_fails rfl dX1_couldFail_105 (by decide) (Nat.le_of_ble_eq_true rfl) ?_
          refine r_iinc (pc := 108) _ C dX1_couldFail_108 rfl (nI_1 i) (by decide) ?_
          refine r_goto (pc := 111) 14 C dX1_couldFail_111 (by decide) ?_
          have e1 : m_cf1 T p set (LL.getD i 0) q = _ := if_pos c38
          have e2 : m_cf T p set LL i q = _ := if_neg c76
          rw [e1] at e2
          rw [e2] at K14
          refine V_w (congrArg (wM G a) (fail_vf T p _ _ _ hl5)) ?_
          refine V_sub ?_ K14
          intro q1 hq1
          simp only [lset, lset2, lvo, lkill, List.mem_cons, List.not_mem_nil, or_false] at hq1 ⊢
          rcases hq1 with h | h | h | h | h | h | h <;> first | (simp [h]; done) | (simp [h]; rfl)
      · refine r_aload_n (pc := 41) C dX1_couldFail_41 rfl ?_
        refine r_iload_n (pc := 42) C dX1_couldFail_42 rfl ?_
        refine r_aload_n (pc := 43) C dX1_couldFail_43 rfl ?_
        refine M_g23 (pc := 44) C dX1_couldFail_44 ?_
        refine r_iload (pc := 47) C dX1_couldFail_47 rfl ?_
        refine M_l23 (pc := 49) C dX1_couldFail_49 (by assumption) ?_
        rw [hl]
        refine M_cQi (pc := 50) C (cM_tenthsNow B a _ _ _ (by assumption) (by assumption) (by assumption)) q923 mX1_tenthsNow rfl dX1_couldFail_50 (by decide) (Nat.le_of_ble_eq_true rfl) ?_
        rw [tn_vf]
        refine r_iload (pc := 53) C dX1_couldFail_53 rfl ?_
        refine r_if_eq (pc := 55) 63 C dX1_couldFail_55 (by decide) (fun c55 => ?_) (fun c55 => ?_)
        · refine r_iconst (pc := 63) (0) C dX1_couldFail_63 (by decide) ?_
          refine r_icmp_eq (pc := 64) 71 C dX1_couldFail_64 (by decide) (fun c64 => ?_) (fun c64 => ?_)
          · refine r_iconst (pc := 71) (0) C dX1_couldFail_71 (by decide) ?_
            refine r_istore (pc := 72) C dX1_couldFail_72 (by decide) ?_
            refine r_iload (pc := 74) C dX1_couldFail_74 rfl ?_
            refine r_if_eq (pc := 76) 108 C dX1_couldFail_76 (by decide) (fun c76 => ?_) (fun c76 => ?_)
            · refine r_iinc (pc := 108) _ C dX1_couldFail_108 rfl (nI_1 i) (by decide) ?_
              refine r_goto (pc := 111) 14 C dX1_couldFail_111 (by decide) ?_
              have e1 : m_cf1 T p set (LL.getD i 0) q = _ := (if_neg c38).trans ((if_pos c55).trans (if_pos c64))
              have e2 : m_cf T p set LL i q = _ := if_pos c76
              rw [e1] at e2
              rw [e2] at K14
              refine V_sub ?_ K14
              intro q1 hq1
              simp only [lset, lset2, lvo, lkill, List.mem_cons, List.not_mem_nil, or_false] at hq1 ⊢
              rcases hq1 with h | h | h | h | h | h | h <;> first | (simp [h]; done) | (simp [h]; rfl)
            · exact absurd c55 c76
          · refine r_iconst (pc := 67) (1) C dX1_couldFail_67 (by decide) ?_
            refine r_goto (pc := 68) 72 C dX1_couldFail_68 (by decide) ?_
            refine r_istore (pc := 72) C dX1_couldFail_72 (by decide) ?_
            refine r_iload (pc := 74) C dX1_couldFail_74 rfl ?_
            refine r_if_eq (pc := 76) 108 C dX1_couldFail_76 (by decide) (fun c76 => ?_) (fun c76 => ?_)
            · refine r_iinc (pc := 108) _ C dX1_couldFail_108 rfl (nI_1 i) (by decide) ?_
              refine r_goto (pc := 111) 14 C dX1_couldFail_111 (by decide) ?_
              have e1 : m_cf1 T p set (LL.getD i 0) q = _ := (if_neg c38).trans ((if_pos c55).trans (if_neg c64))
              have e2 : m_cf T p set LL i q = _ := if_pos c76
              rw [e1] at e2
              rw [e2] at K14
              refine V_sub ?_ K14
              intro q1 hq1
              simp only [lset, lset2, lvo, lkill, List.mem_cons, List.not_mem_nil, or_false] at hq1 ⊢
              rcases hq1 with h | h | h | h | h | h | h <;> first | (simp [h]; done) | (simp [h]; rfl)
            · exact absurd c55 c76
        · refine r_bipush (pc := 58) (10) C dX1_couldFail_58 (by decide) ?_
          refine r_goto (pc := 60) 64 C dX1_couldFail_60 (by decide) ?_
          refine r_icmp_eq (pc := 64) 71 C dX1_couldFail_64 (by decide) (fun c64 => ?_) (fun c64 => ?_)
          · refine r_iconst (pc := 71) (0) C dX1_couldFail_71 (by decide) ?_
            refine r_istore (pc := 72) C dX1_couldFail_72 (by decide) ?_
            refine r_iload (pc := 74) C dX1_couldFail_74 rfl ?_
            refine r_if_eq (pc := 76) 108 C dX1_couldFail_76 (by decide) (fun c76 => ?_) (fun c76 => ?_)
            · exact absurd c76 c55
            · refine r_iload (pc := 79) C dX1_couldFail_79 rfl ?_
              refine r_aload_n (pc := 81) C dX1_couldFail_81 rfl ?_
              refine M_g4 (pc := 82) C dX1_couldFail_82 ?_
              refine r_aload_n (pc := 85) C dX1_couldFail_85 rfl ?_
              refine M_g23 (pc := 86) C dX1_couldFail_86 ?_
              refine r_iload (pc := 89) C dX1_couldFail_89 rfl ?_
              refine M_l23 (pc := 91) C dX1_couldFail_91 (by assumption) ?_
              rw [hl]
              refine M_l4 (pc := 92) C dX1_couldFail_92 (by assumption) ?_
              rw [nI_clamp (Nat.lt_trans hl5 (by decide))]
              refine r_iadd (pc := 93) C dX1_couldFail_93 ?_
              refine r_istore (pc := 94) C dX1_couldFail_94 (by decide) ?_
              refine r_aload_n (pc := 96) C dX1_couldFail_96 rfl ?_
              refine r_iload_n (pc := 97) C dX1_couldFail_97 rfl ?_
              refine r_aload_n (pc := 98) C dX1_couldFail_98 rfl ?_
              refine M_g23 (pc := 99) C dX1_couldFail_99 ?_
              refine r_iload (pc := 102) C dX1_couldFail_102 rfl ?_
              refine M_l23 (pc := 104) C dX1_couldFail_104 (by assumption) ?_
              rw [hl]
              refine M_cQv (pc := 105) C (cM_fails B a _ _ _ (by assumption) (by assumption) (by assumption)) q935 mX1_fails rfl dX1_couldFail_105 (by decide) (Nat.le_of_ble_eq_true rfl) ?_
              refine r_iinc (pc := 108) _ C dX1_couldFail_108 rfl (nI_1 i) (by decide) ?_
              refine r_goto (pc := 111) 14 C dX1_couldFail_111 (by decide) ?_
              have e1 : m_cf1 T p set (LL.getD i 0) q = _ := (if_neg c38).trans ((if_neg c55).trans (if_pos c64))
              have e2 : m_cf T p set LL i q = _ := if_neg c76
              rw [e1] at e2
              rw [e2] at K14
              refine V_w (congrArg (wM G a) (fail_vf T p _ _ _ hl5)) ?_
              refine V_sub ?_ K14
              intro q1 hq1
              simp only [lset, lset2, lvo, lkill, List.mem_cons, List.not_mem_nil, or_false] at hq1 ⊢
              rcases hq1 with h | h | h | h | h | h | h <;> first | (simp [h]; done) | (simp [h]; rfl)
          · refine r_iconst (pc := 67) (1) C dX1_couldFail_67 (by decide) ?_
            refine r_goto (pc := 68) 72 C dX1_couldFail_68 (by decide) ?_
            refine r_istore (pc := 72) C dX1_couldFail_72 (by decide) ?_
            refine r_iload (pc := 74) C dX1_couldFail_74 rfl ?_
            refine r_if_eq (pc := 76) 108 C dX1_couldFail_76 (by decide) (fun c76 => ?_) (fun c76 => ?_)
            · exact absurd c76 c55
            · refine r_iload (pc := 79) C dX1_couldFail_79 rfl ?_
              refine r_aload_n (pc := 81) C dX1_couldFail_81 rfl ?_
              refine M_g4 (pc := 82) C dX1_couldFail_82 ?_
              refine r_aload_n (pc := 85) C dX1_couldFail_85 rfl ?_
              refine M_g23 (pc := 86) C dX1_couldFail_86 ?_
              refine r_iload (pc := 89) C dX1_couldFail_89 rfl ?_
              refine M_l23 (pc := 91) C dX1_couldFail_91 (by assumption) ?_
              rw [hl]
              refine M_l4 (pc := 92) C dX1_couldFail_92 (by assumption) ?_
              rw [nI_clamp (Nat.lt_trans hl5 (by decide))]
              refine r_iadd (pc := 93) C dX1_couldFail_93 ?_
              refine r_istore (pc := 94) C dX1_couldFail_94 (by decide) ?_
              refine r_aload_n (pc := 96) C dX1_couldFail_96 rfl ?_
              refine r_iload_n (pc := 97) C dX1_couldFail_97 rfl ?_
              refine r_aload_n (pc := 98) C dX1_couldFail_98 rfl ?_
              refine M_g23 (pc := 99) C dX1_couldFail_99 ?_
              refine r_iload (pc := 102) C dX1_couldFail_102 rfl ?_
              refine M_l23 (pc := 104) C dX1_couldFail_104 (by assumption) ?_
              rw [hl]
              refine M_cQv (pc := 105) C (cM_fails B a _ _ _ (by assumption) (by assumption) (by assumption)) q935 mX1_fails rfl dX1_couldFail_105 (by decide) (Nat.le_of_ble_eq_true rfl) ?_
              refine r_iinc (pc := 108) _ C dX1_couldFail_108 rfl (nI_1 i) (by decide) ?_
              refine r_goto (pc := 111) 14 C dX1_couldFail_111 (by decide) ?_
              have e1 : m_cf1 T p set (LL.getD i 0) q = _ := (if_neg c38).trans ((if_neg c55).trans (if_neg c64))
              have e2 : m_cf T p set LL i q = _ := if_neg c76
              rw [e1] at e2
              rw [e2] at K14
              refine V_w (congrArg (wM G a) (fail_vf T p _ _ _ hl5)) ?_
              refine V_sub ?_ K14
              intro q1 hq1
              simp only [lset, lset2, lvo, lkill, List.mem_cons, List.not_mem_nil, or_false] at hq1 ⊢
              rcases hq1 with h | h | h | h | h | h | h <;> first | (simp [h]; done) | (simp [h]; rfl)
  · have hR9 : Rg (m_cq T p set LL LL.length).2.2.2 9 := cq_rg hI hp set LL _
    rw [show nf (m_cf T p set LL) LL.length (1, 0, mar T 5 (bIx T p), mar T 11 (fIx T p)) = m_cq T p set LL LL.length from rfl]
    generalize hq : m_cq T p set LL LL.length = q at hR9 ⊢
    have hIZ : IM (m_vf T p q.2.2.1 q.2.2.2) := IM_vf hI p _ hR9
    refine r_iload (pc := 14) C dX1_couldFail_14 rfl ?_
    refine r_aload_n (pc := 16) C dX1_couldFail_16 rfl ?_
    refine M_g24 (pc := 17) C dX1_couldFail_17 ?_
    refine r_icmp_ge (pc := 20) 114 C dX1_couldFail_20 (by decide) (fun c20 => ?_) (fun c20 => ?_)
    · refine r_aload_n (pc := 114) C dX1_couldFail_114 rfl ?_
      refine r_iload_n (pc := 115) C dX1_couldFail_115 rfl ?_
      refine M_cQv (pc := 116) C (cM_load B a _ _ (by assumption) (by assumption)) q971 mX1_load rfl dX1_couldFail_116 (by decide) (Nat.le_of_ble_eq_true rfl) ?_
      refine V_w (congrArg (wM G a) (ld_vf T p _ _)) ?_
      refine r_iload (pc := 119) C dX1_couldFail_119 rfl ?_
      refine r_if_eq (pc := 121) 134 C dX1_couldFail_121 (by decide) (fun c121 => ?_) (fun c121 => ?_)
      · refine r_iconst (pc := 134) (0) C dX1_couldFail_134 (by decide) ?_
        exact r_zret (pc := 135) C hR dX1_couldFail_135 (by decide) (by decide) (by decide) ⟨by rw [m_couldFail, hq, if_pos c121], rfl⟩
      · refine r_iload (pc := 124) C dX1_couldFail_124 rfl ?_
        refine r_iload_n (pc := 126) C dX1_couldFail_126 rfl ?_
        refine r_icmp_ne (pc := 127) 134 C dX1_couldFail_127 (by decide) (fun c127 => ?_) (fun c127 => ?_)
        · refine r_iconst (pc := 134) (0) C dX1_couldFail_134 (by decide) ?_
          exact r_zret (pc := 135) C hR dX1_couldFail_135 (by decide) (by decide) (by decide) ⟨by rw [m_couldFail, hq, if_neg c121, if_neg c127], rfl⟩
        · refine r_iconst (pc := 130) (1) C dX1_couldFail_130 (by decide) ?_
          refine r_goto (pc := 131) 135 C dX1_couldFail_131 (by decide) ?_
          exact r_zret (pc := 135) C hR dX1_couldFail_135 (by decide) (by decide) (by decide) ⟨by rw [m_couldFail, hq, if_neg c121, if_pos c127], rfl⟩
    · exact absurd (show T.1 24 ≤ nI LL.length by rw [hLn]; exact Int32.le_refl _) c20


def m_xy (T : StM) (x y : Int32) : StM := setMi (setMi T 21 x) 22 y
theorem m_xy_id (T : StM) : T = m_xy T (T.1 21) (T.1 22) := by
  unfold m_xy setMi
  show T = (va_up (va_up T.1 21 (T.1 21)) 22 (T.1 22), T.2)
  rw [up_id, up_id]
theorem m_sv_xy (T : StM) (x y p : Int32) : ∃ x' y', m_sv (m_xy T x y) p = m_xy T x' y' := by
  refine ⟨mar T 5 (bIx T p), mar T 11 (fIx T p), ?_⟩
  unfold m_sv m_xy setMi
  show (va_up (va_up (va_up (va_up T.1 21 x) 22 y) 21 _) 22 _, T.2) = _
  rw [up_comm _ (by decide : ¬ 22 = 21), up_up, up_up]
  rfl
def m_ffF (T : StM) (p st : Int32) (LL : List Nat) (i : Nat) (q : Int32 × Int32) : Int32 × Int32 := if (nI i &&& mar T 10 p.toNatClampNeg) = 0 then (if m_couldFail T p (nI i) st LL = 0 then q else (q.1 + 1, q.2 &&& nI i)) else q
def m_LL (T : StM) (p : Int32) : List Nat := llist (mar T 10 p.toNatClampNeg) (T.1 1).toNatClampNeg
def m_ff (T : StM) (p st : Int32) : Int32 × Int32 := nf (m_ffF T p st (m_LL T p)) (2 ^ (T.1 1).toNatClampNeg) (0, 31)
def m_faultsNow (T : StM) (p st w : Int32) : Int32 := if w = 0 then (m_ff T p st).1 else if (m_ff T p st).1 = 0 then -1 else (m_ff T p st).2
def m_faults (T : StM) (p st w : Int32) : Int32 := if m_isPrince T p = 0 then -101 else if jin st 0 25 = 0 then -102 else if jin w 0 1 = 0 then -102 else m_faultsNow T p st w
theorem m_cf_ls (T : StM) (arr : Nat → Int32) (n x y p set st : Int32) (LL : List Nat) : m_couldFail (m_xy (m_ls T arr n) x y) p set st LL = m_couldFail T p set st LL := rfl
theorem shl5 : ∀ n, n ≤ 5 → (1 : Int32) <<< (nI n &&& 31) = nI (2 ^ n) := by decide +kernel
theorem pw32 {n : Nat} (h : n ≤ 5) : 2 ^ n ≤ 32 := Nat.pow_le_pow_right (n := 2) (by decide) h
set_option maxHeartbeats 4000000 in
theorem cM_faultsNow {G : Gx} (B : Base G) (a : Nat → Nat) (T : StM) (p st w : Int32) (hI : IM T) (hp : vp_in p 3) : Ci G yX1_faultsNow cX1_faultsNow 7 .int (rmD 4) (wM G a) T [.ref (a 0), .int p, .int st, .int w] (fun r S' => r = m_faultsNow T p st w ∧ ∃ arr n x y, S' = m_xy (m_ls T arr n) x y) := by
  refine Ci.of B [some (.ref (a 0)), some (.int p), some (.int st), some (.int w), none, none, none] (by decide) rfl (Nat.le_of_ble_eq_true rfl) (fun E C hR => ?_)
  have C : CxOk E RX1 cX1_faultsNow 7 G (rmD 4) := C
  have hLl : (m_LL T p).length ≤ 5 := Nat.le_trans (llist_le _ _) hI.les.2
  have hL5 : ∀ x, x ∈ m_LL T p → x < 5 := fun x hx => Nat.lt_of_lt_of_le (llist_lt hx) hI.les.2
  have h32 := pw32 hI.les.2
  have esh : (1 : Int32) <<< (T.1 1 &&& 31) = nI (2 ^ (T.1 1).toNatClampNeg) := by rw [← shl5 _ hI.les.2, ← hI.les.1]
  refine r_aload_n (pc := 0) C dX1_faultsNow_0 rfl ?_
  refine r_iload_n (pc := 1) C dX1_faultsNow_1 rfl ?_
  refine M_cIv (pc := 2) C (cM_layLeft B a _ _ (by assumption) (by assumption)) q950 mX1_layLeft rfl dX1_faultsNow_2 (by decide) (Nat.le_of_ble_eq_true rfl) (fun S1 h1 => ?_)
  obtain ⟨arr, rfl, hLa⟩ := h1
  refine r_iconst (pc := 5) (0) C dX1_faultsNow_5 (by decide) ?_
  refine r_istore (pc := 6) C dX1_faultsNow_6 (by decide) ?_
  refine r_bipush (pc := 8) (31) C dX1_faultsNow_8 (by decide) ?_
  refine r_istore (pc := 10) C dX1_faultsNow_10 (by decide) ?_
  refine r_iconst (pc := 12) (0) C dX1_faultsNow_12 (by decide) ?_
  refine r_istore (pc := 13) C dX1_faultsNow_13 (by decide) ?_
  refine V_w (congrArg (wM G a) (m_xy_id _)) ?_
  refine V_for (P := fun i q => ∀ x y, V E 7 0 0 (wM G a (m_xy (m_ls T arr (nI (m_LL T p).length)) x y)) 15 [some (.ref (a 0)), some (.int p), some (.int st), some (.int w), some (.int q.1), some (.int q.2), some (.int (nI i))] []) (m_ffF T p st (m_LL T p)) (0, 31) (2 ^ (T.1 1).toNatClampNeg) (fun i hi K15 x y => ?_) (fun x y => ?_) _ _
  · simp only [nf] at K15
    generalize nf (m_ffF T p st (m_LL T p)) i (0, 31) = q at K15 ⊢
    have hIZ : IM (m_xy (m_ls T arr (nI (m_LL T p).length)) x y) := hI
    refine r_iload (pc := 15) C dX1_faultsNow_15 rfl ?_
    refine r_iconst (pc := 17) (1) C dX1_faultsNow_17 (by decide) ?_
    refine r_aload_n (pc := 18) C dX1_faultsNow_18 rfl ?_
    refine M_g1 (pc := 19) C dX1_faultsNow_19 ?_
    refine r_ishl (pc := 22) C dX1_faultsNow_22 ?_
    refine r_icmp_ge (pc := 23) 65 C dX1_faultsNow_23 (by decide) (fun c23 => ?_) (fun c23 => ?_)
    · have c23 : (1 : Int32) <<< (T.1 1 &&& 31) ≤ nI i := c23
      rw [esh] at c23
      exact absurd c23 (nI_ge hi (by omega))
    · refine r_iload (pc := 26) C dX1_faultsNow_26 rfl ?_
      refine r_aload_n (pc := 28) C dX1_faultsNow_28 rfl ?_
      refine M_g10 (pc := 29) C dX1_faultsNow_29 ?_
      refine r_iload_n (pc := 32) C dX1_faultsNow_32 rfl ?_
      refine M_l10 (pc := 33) C dX1_faultsNow_33 (by assumption) ?_
      refine r_iand (pc := 34) C dX1_faultsNow_34 ?_
      refine r_if_ne (pc := 35) 59 C dX1_faultsNow_35 (by decide) (fun c35 => ?_) (fun c35 => ?_)
      · have c35 : ¬ (nI i &&& mar T 10 p.toNatClampNeg) = 0 := c35
        refine r_iinc (pc := 59) _ C dX1_faultsNow_59 rfl (nI_1 i) (by decide) ?_
        refine r_goto (pc := 62) 15 C dX1_faultsNow_62 (by decide) ?_
        rw [show m_ffF T p st (m_LL T p) i q = _ from if_neg c35] at K15
        exact K15 x y
      · have c35 : (nI i &&& mar T 10 p.toNatClampNeg) = 0 := c35
        refine r_aload_n (pc := 38) C dX1_faultsNow_38 rfl ?_
        refine r_iload_n (pc := 39) C dX1_faultsNow_39 rfl ?_
        refine r_iload (pc := 40) C dX1_faultsNow_40 rfl ?_
        refine r_iload_n (pc := 42) C dX1_faultsNow_42 rfl ?_
        refine M_cQi (pc := 43) C (cM_couldFail B a (m_xy (m_ls T arr (nI (m_LL T p).length)) x y) _ _ _ hIZ hp (m_LL T p) rfl hLa hL5 hLl) q1004 mX1_couldFail rfl dX1_faultsNow_43 (by decide) (Nat.le_of_ble_eq_true rfl) ?_
        refine r_if_eq (pc := 46) 59 C dX1_faultsNow_46 (by decide) (fun c46 => ?_) (fun c46 => ?_)
        · have c46 : m_couldFail T p (nI i) st (m_LL T p) = 0 := c46
          refine r_iinc (pc := 59) _ C dX1_faultsNow_59 rfl (nI_1 i) (by decide) ?_
          refine r_goto (pc := 62) 15 C dX1_faultsNow_62 (by decide) ?_
          rw [show m_ffF T p st (m_LL T p) i q = _ from (if_pos c35).trans (if_pos c46)] at K15
          obtain ⟨x1, y1, e1⟩ := m_sv_xy (m_ls T arr (nI (m_LL T p).length)) x y p
          refine V_w (congrArg (wM G a) e1) ?_
          exact K15 x1 y1
        · have c46 : ¬ m_couldFail T p (nI i) st (m_LL T p) = 0 := c46
          refine r_iinc (pc := 49) _ C dX1_faultsNow_49 rfl rfl (by decide) ?_
          refine r_iload (pc := 52) C dX1_faultsNow_52 rfl ?_
          refine r_iload (pc := 54) C dX1_faultsNow_54 rfl ?_
          refine r_iand (pc := 56) C dX1_faultsNow_56 ?_
          refine r_istore (pc := 57) C dX1_faultsNow_57 (by decide) ?_
          refine r_iinc (pc := 59) _ C dX1_faultsNow_59 rfl (nI_1 i) (by decide) ?_
          refine r_goto (pc := 62) 15 C dX1_faultsNow_62 (by decide) ?_
          rw [show m_ffF T p st (m_LL T p) i q = _ from (if_pos c35).trans (if_neg c46)] at K15
          obtain ⟨x1, y1, e1⟩ := m_sv_xy (m_ls T arr (nI (m_LL T p).length)) x y p
          refine V_w (congrArg (wM G a) e1) ?_
          exact K15 x1 y1
  · refine r_iload (pc := 15) C dX1_faultsNow_15 rfl ?_
    refine r_iconst (pc := 17) (1) C dX1_faultsNow_17 (by decide) ?_
    refine r_aload_n (pc := 18) C dX1_faultsNow_18 rfl ?_
    refine M_g1 (pc := 19) C dX1_faultsNow_19 ?_
    refine r_ishl (pc := 22) C dX1_faultsNow_22 ?_
    refine r_icmp_ge (pc := 23) 65 C dX1_faultsNow_23 (by decide) (fun c23 => ?_) (fun c23 => ?_)
    · refine r_iload_n (pc := 65) C dX1_faultsNow_65 rfl ?_
      refine r_if_ne (pc := 66) 74 C dX1_faultsNow_66 (by decide) (fun c66 => ?_) (fun c66 => ?_)
      · refine r_iload (pc := 74) C dX1_faultsNow_74 rfl ?_
        refine r_if_ne (pc := 76) 83 C dX1_faultsNow_76 (by decide) (fun c76 => ?_) (fun c76 => ?_)
        · refine r_iload (pc := 83) C dX1_faultsNow_83 rfl ?_
          exact r_iret (pc := 85) C hR dX1_faultsNow_85 (by decide) (by decide) ⟨by (rw [m_faultsNow, if_neg c66, if_neg (show ¬ (m_ff T p st).1 = 0 from c76)] <;> rfl), _, _, _, _, rfl⟩
        · refine r_iconst (pc := 79) (-1) C dX1_faultsNow_79 (by decide) ?_
          refine r_goto (pc := 80) 85 C dX1_faultsNow_80 (by decide) ?_
          exact r_iret (pc := 85) C hR dX1_faultsNow_85 (by decide) (by decide) ⟨by (rw [m_faultsNow, if_neg c66, if_pos (show (m_ff T p st).1 = 0 from c76)]), _, _, _, _, rfl⟩
      · refine r_iload (pc := 69) C dX1_faultsNow_69 rfl ?_
        refine r_goto (pc := 71) 85 C dX1_faultsNow_71 (by decide) ?_
        exact r_iret (pc := 85) C hR dX1_faultsNow_85 (by decide) (by decide) ⟨by (rw [m_faultsNow, if_pos c66] <;> rfl), _, _, _, _, rfl⟩
    · exact absurd (show (1 : Int32) <<< (T.1 1 &&& 31) ≤ nI (2 ^ (T.1 1).toNatClampNeg) by rw [esh]; exact Int32.le_refl _) c23

theorem m_xyls_id (T : StM) : T = m_xy (m_ls T (mar T 23) (T.1 24)) (T.1 21) (T.1 22) := by
  rw [← m_ls_id]
  unfold m_xy setMi
  show T = (va_up (va_up (va_up T.1 24 (T.1 24)) 21 (T.1 21)) 22 (T.1 22), T.2)
  rw [up_id, up_id, up_id]
set_option maxHeartbeats 4000000 in
theorem cM_faults {G : Gx} (B : Base G) (a : Nat → Nat) (T : StM) (p st w : Int32) (hI : IM T) : Ci G yX1_faults cX1_faults 4 .int (rmD 5) (wM G a) T [.ref (a 0), .int p, .int st, .int w] (fun r S' => r = m_faults T p st w ∧ ∃ arr n x y, S' = m_xy (m_ls T arr n) x y) := by
  refine Ci.of B [some (.ref (a 0)), some (.int p), some (.int st), some (.int w)] (by decide) rfl (Nat.le_of_ble_eq_true rfl) (fun E C hR => ?_)
  have C : CxOk E RX1 cX1_faults 4 G (rmD 5) := C
  refine r_aload_n (pc := 0) C dX1_faults_0 rfl ?_
  refine r_iload_n (pc := 1) C dX1_faults_1 rfl ?_
  refine M_cQi (pc := 2) C (cM_isPrince B a _ _) q892 mX1_isPrince rfl dX1_faults_2 (by decide) (Nat.le_of_ble_eq_true rfl) ?_
  refine r_if_ne (pc := 5) 11 C dX1_faults_5 (by decide) (fun c5 => ?_) (fun c5 => ?_)
  · have hp := hI.pr c5
    refine r_iload_n (pc := 11) C dX1_faults_11 rfl ?_
    refine r_iconst (pc := 12) (0) C dX1_faults_12 (by decide) ?_
    refine r_bipush (pc := 13) (25) C dX1_faults_13 (by decide) ?_
    refine S_cQi (pc := 15) C (cM_within B _ _ _) q826 mX1_within rfl dX1_faults_15 (by decide) (Nat.le_of_ble_eq_true rfl) ?_
    refine r_if_eq (pc := 18) 40 C dX1_faults_18 (by decide) (fun c18 => ?_) (fun c18 => ?_)
    · refine r_bipush (pc := 40) (-102) C dX1_faults_40 (by decide) ?_
      exact r_iret (pc := 42) C hR dX1_faults_42 (by decide) (by decide) ⟨by rw [m_faults, if_neg c5, if_pos c18], _, _, _, _, m_xyls_id T⟩
    · refine r_iload_n (pc := 21) C dX1_faults_21 rfl ?_
      refine r_iconst (pc := 22) (0) C dX1_faults_22 (by decide) ?_
      refine r_iconst (pc := 23) (1) C dX1_faults_23 (by decide) ?_
      refine S_cQi (pc := 24) C (cM_within B _ _ _) q826 mX1_within rfl dX1_faults_24 (by decide) (Nat.le_of_ble_eq_true rfl) ?_
      refine r_if_eq (pc := 27) 40 C dX1_faults_27 (by decide) (fun c27 => ?_) (fun c27 => ?_)
      · refine r_bipush (pc := 40) (-102) C dX1_faults_40 (by decide) ?_
        exact r_iret (pc := 42) C hR dX1_faults_42 (by decide) (by decide) ⟨by rw [m_faults, if_neg c5, if_neg c18, if_pos c27], _, _, _, _, m_xyls_id T⟩
      · refine r_aload_n (pc := 30) C dX1_faults_30 rfl ?_
        refine r_iload_n (pc := 31) C dX1_faults_31 rfl ?_
        refine r_iload_n (pc := 32) C dX1_faults_32 rfl ?_
        refine r_iload_n (pc := 33) C dX1_faults_33 rfl ?_
        refine M_cIi (pc := 34) C (cM_faultsNow B a _ _ _ _ (by assumption) (by assumption)) q1000 mX1_faultsNow rfl dX1_faults_34 (by decide) (Nat.le_of_ble_eq_true rfl) (fun r1 S1 h1 => ?_)
        obtain ⟨rfl, arr, n, x, y, rfl⟩ := h1
        refine r_goto (pc := 37) 42 C dX1_faults_37 (by decide) ?_
        exact r_iret (pc := 42) C hR dX1_faults_42 (by decide) (by decide) ⟨by rw [m_faults, if_neg c5, if_neg c18, if_neg c27], _, _, _, _, rfl⟩
  · refine r_bipush (pc := 8) (-101) C dX1_faults_8 (by decide) ?_
    exact r_iret (pc := 10) C hR dX1_faults_10 (by decide) (by decide) ⟨by rw [m_faults, if_pos c5], _, _, _, _, m_xyls_id T⟩

