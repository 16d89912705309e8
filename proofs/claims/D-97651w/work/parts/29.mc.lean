
set_option maxRecDepth 100000
def m_sv1 (i : Nat) (Z : StM) : StM := setMa Z 27 (upd (mar Z 27) (nI i).toNatClampNeg (mar Z 11 (nI i).toNatClampNeg))
def m_sv2 (i : Nat) (Z : StM) : StM := setMa (setMa Z 27 (upd (mar Z 27) (9 + nI i).toNatClampNeg (mar Z 5 (nI i).toNatClampNeg))) 27 (upd (upd (mar Z 27) (9 + nI i).toNatClampNeg (mar Z 5 (nI i).toNatClampNeg)) (12 + nI i).toNatClampNeg (mar Z 10 (nI i).toNatClampNeg))
def m_saveAll (T : StM) : StM := nf m_sv2 3 (nf m_sv1 9 T)
def m_ld1 (i : Nat) (Z : StM) : StM := setMa Z 11 (upd (mar Z 11) (nI i).toNatClampNeg (mar Z 27 (nI i).toNatClampNeg))
def m_ld2 (i : Nat) (Z : StM) : StM := setMa (setMa Z 5 (upd (mar Z 5) (nI i).toNatClampNeg (mar Z 27 (9 + nI i).toNatClampNeg))) 10 (upd (mar Z 10) (nI i).toNatClampNeg (mar Z 27 (12 + nI i).toNatClampNeg))
def m_loadAll (T : StM) : StM := nf m_ld2 3 (nf m_ld1 9 T)
def m_im0 (T : StM) : StM := setMi (setMi (setMi (setMi T 28 1) 29 (T.1 0)) 30 (T.1 6)) 31 (T.1 12)
def m_im1 (i : Nat) (Z : StM) : StM := setMa Z 32 (upd (mar Z 32) (nI i).toNatClampNeg (mar Z 11 (nI i).toNatClampNeg))
def m_im2 (i : Nat) (Z : StM) : StM := setMa (setMa (setMa Z 33 (upd (mar Z 33) (nI i).toNatClampNeg (mar Z 5 (nI i).toNatClampNeg))) 34 (upd (mar Z 34) (nI i).toNatClampNeg (mar Z 10 (nI i).toNatClampNeg))) 35 (upd (mar Z 35) (nI i).toNatClampNeg (mar Z 9 (nI i).toNatClampNeg))
def m_im3 (i : Nat) (Z : StM) : StM := setMa (setMa (setMa Z 36 (upd (mar Z 36) (nI i).toNatClampNeg (mar Z 13 (nI i).toNatClampNeg))) 37 (upd (mar Z 37) (nI i).toNatClampNeg (mar Z 14 (nI i).toNatClampNeg))) 38 (upd (mar Z 38) (nI i).toNatClampNeg (mar Z 15 (nI i).toNatClampNeg))
def m_im (T : StM) : StM := nf m_im3 6 (nf m_im2 3 (nf m_im1 9 (m_im0 T)))
def m_image (T : StM) : Int32 × StM := if T.1 1 = 0 then (-103, T) else (m_stripesAll (m_im T), m_im T)
def m_re0 (T : StM) : StM := setMi (setMi T 6 (T.1 30)) 12 (T.1 31)
def m_re1 (i : Nat) (Z : StM) : StM := setMa Z 11 (upd (mar Z 11) (nI i).toNatClampNeg (mar Z 32 (nI i).toNatClampNeg))
def m_re2 (i : Nat) (Z : StM) : StM := setMa (setMa (setMa Z 5 (upd (mar Z 5) (nI i).toNatClampNeg (mar Z 33 (nI i).toNatClampNeg))) 10 (upd (mar Z 10) (nI i).toNatClampNeg (mar Z 34 (nI i).toNatClampNeg))) 9 (upd (mar Z 9) (nI i).toNatClampNeg (mar Z 35 (nI i).toNatClampNeg))
def m_re3 (i : Nat) (Z : StM) : StM := setMa (setMa (setMa Z 13 (upd (mar Z 13) (nI i).toNatClampNeg (mar Z 36 (nI i).toNatClampNeg))) 14 (upd (mar Z 14) (nI i).toNatClampNeg (mar Z 37 (nI i).toNatClampNeg))) 15 (upd (mar Z 15) (nI i).toNatClampNeg (mar Z 38 (nI i).toNatClampNeg))
def m_re (T : StM) : StM := nf m_re3 6 (nf m_re2 3 (nf m_re1 9 (m_re0 T)))
def m_restore (T : StM) : Int32 × StM := if T.1 28 = 0 then (-103, T) else if T.1 29 = T.1 0 then (m_stripesAll (m_re T), m_re T) else (-103, T)
def m_sg (p : Int32) (l : Nat) (q : StM × Int32) : StM × Int32 := if jhas (mar q.1 10 p.toNatClampNeg) (nI l) = 0 then ((m_goOne q.1 p (nI l)).2, q.2 + (m_goOne q.1 p (nI l)).1) else (q.1, q.2 + 0)
def m_so (L m : Nat) (k : Nat) (q : StM × Int32) : StM × Int32 := nf (m_sg (nI (k % m))) L q
def m_sA (T : StM) (seed : Int32) : StM := setMl (m_saveAll T) 26 seed.toInt64
def m_sC (T : StM) (t seed : Int32) : StM × Int32 := nf (m_so (T.1 1).toNatClampNeg (T.1 6).toNatClampNeg) (t * T.1 6).toNatClampNeg (m_sA T seed, 0)
def m_schoolsNow (T : StM) (t seed w : Int32) : Int32 := if w = 0 then (m_sC T t seed).2 else if w = 1 then m_learntAll (m_sC T t seed).1 else ((m_loadAll (m_sC T t seed).1).2.1 26).toInt32
def m_schools (T : StM) (t seed w : Int32) : Int32 × StM := if jin t 1 20 = 0 then (-102, T) else if seed < 0 then (-102, T) else if jin w 0 2 = 0 then (-102, T) else if T.1 6 = 0 then (-103, T) else (m_schoolsNow T t seed w, m_loadAll (m_sC T t seed).1)

theorem R99 : Rg 9 9 := ⟨rfl, Nat.le_refl _⟩
theorem R66 : Rg 6 6 := ⟨rfl, Nat.le_refl _⟩
theorem vin15a {i : Nat} (h : i < 9) : vp_in (nI i) 15 := vp_in_nI (by omega) (by decide)
theorem vin15b {i : Nat} (h : i < 3) : vp_in (9 + nI i) 15 := by
  rw [show (9 : Int32) = nI 9 from rfl, nI_add]
  exact vp_in_nI (by omega) (by decide)
theorem vin15c {i : Nat} (h : i < 3) : vp_in (12 + nI i) 15 := by
  rw [show (12 : Int32) = nI 12 from rfl, nI_add]
  exact vp_in_nI (by omega) (by decide)
/-- a state of M that differs in what the order of its ranges doesn't name -/
theorem IM_same {T Z : StM} (h : IM T) (h1 : ∀ f, f = 1 ∨ f = 6 ∨ f = 12 ∨ f = 17 ∨ f = 30 ∨ f = 31 → Z.1 f = T.1 f) (h3 : ∀ f, f = 7 ∨ f = 8 ∨ f = 9 ∨ f = 10 ∨ f = 35 ∨ f = 34 ∨ f = 11 ∨ f = 32 ∨ f = 3 ∨ f = 4 ∨ f = 14 ∨ f = 37 → mar Z f = mar T f) : IM Z := by
  unfold IM
  rw [h1 1 (by simp), h1 6 (by simp), h1 12 (by simp), h1 17 (by simp), h1 30 (by simp), h1 31 (by simp), h3 7 (by simp), h3 8 (by simp), h3 9 (by simp), h3 10 (by simp), h3 35 (by simp), h3 34 (by simp), h3 11 (by simp), h3 32 (by simp), h3 3 (by simp), h3 4 (by simp), h3 14 (by simp), h3 37 (by simp)]
  exact h
theorem IM_fail {T : StM} (h : IM T) (p l : Int32) : IM (m_fail T p l) := by
  obtain ⟨h1, h2, h3, h4, h5, h6, h7⟩ := h
  refine ⟨h1, h2, h3, h4, h5, fun j hj => ⟨?_, (h6 j hj).2⟩, h7⟩
  show Rg (upd (mar T 11) _ _ j) 9
  unfold upd
  split
  · exact fondNext_rg _ _ _
  · exact (h6 j hj).1
theorem IM_learn {T : StM} (h : IM T) {p l : Int32} (hp : vp_in p 3) (hl : vp_in l 5) : IM (setMa T 10 (upd (mar T 10) p.toNatClampNeg (mar T 10 p.toNatClampNeg ||| ((1 : Int32) <<< (l &&& 31))))) := by
  obtain ⟨h1, h2, h3, h4, h5, h6⟩ := h
  refine ⟨h1, h2, h3, h4, fun j hj => ?_, h6⟩
  obtain ⟨g1, g2, g3, g4, g5⟩ := h5 j hj
  refine ⟨g1, g2, g3, ?_, g5⟩
  show Rg (upd (mar T 10) _ _ j) 31
  unfold upd
  split
  · exact learn_rg (h5 _ (vp_lt hp (by decide)).1).2.2.2.1 hl
  · exact g4
theorem IM_goOne {T : StM} (h : IM T) {p l : Int32} (hp : vp_in p 3) (hl : vp_in l 5) : IM (m_goOne T p l).2 := by
  unfold m_goOne
  split
  · exact IM_fail (T := m_drawS T) h p l
  · exact IM_learn (T := m_drawS T) h hp hl
/-- what a school leaves as it was -/
def SoM (T Z : StM) : Prop := IM Z ∧ ∀ f, Z.1 f = T.1 f
theorem SoM.sg {T : StM} {q : StM × Int32} (h : SoM T q.1) {p : Int32} {l : Nat} (hp : vp_in p 3) (hl : l < 5) : SoM T (m_sg p l q).1 := by
  unfold m_sg
  split
  · refine ⟨IM_goOne h.1 hp (vp_in_nI hl (by decide)), fun f => ?_⟩
    rw [← h.2 f]
    show (m_goOne q.1 p (nI l)).2.1 f = _
    unfold m_goOne
    split <;> rfl
  · exact h
theorem SoM.sgn {T : StM} {q : StM × Int32} (h : SoM T q.1) {p : Int32} (hp : vp_in p 3) : ∀ n, n ≤ 5 → SoM T (nf (m_sg p) n q).1 := by
  intro n
  induction n with
  | zero => intro _; exact h
  | succ n ih => intro hn; exact SoM.sg (ih (by omega)) hp (by omega)
theorem SoM.so {T : StM} {q : StM × Int32} (h : SoM T q.1) {L m : Nat} (hL : L ≤ 5) (hm : 0 < m) (hm3 : m ≤ 3) : ∀ n, SoM T (nf (m_so L m) n q).1 := by
  intro n
  induction n with
  | zero => exact h
  | succ n ih => exact SoM.sgn ih (vp_in_nI (Nat.lt_of_lt_of_le (Nat.mod_lt n hm) hm3) (by decide)) L hL
theorem nf_mar {f : Nat → StM → StM} (n : Nat) (Z : StM) (k : Nat) (h : ∀ i Z, mar (f i Z) k = mar Z k) : mar (nf f n Z) k = mar Z k := nf_keep (fun Z : StM => mar Z k) f h n Z
theorem IM_l {T : StM} (h : IM T) (f : Nat) (v : Int64) : IM (setMl T f v) := h
theorem saveAll_i (T : StM) (f : Nat) : (m_saveAll T).1 f = T.1 f := (nf_keep (fun Z : StM => Z.1 f) m_sv2 (fun _ _ => rfl) _ _).trans (nf_keep (fun Z : StM => Z.1 f) m_sv1 (fun _ _ => rfl) _ _)
theorem IM_saveAll {T : StM} (h : IM T) : IM (m_saveAll T) := by
  refine IM_same h (fun f _ => ?_) (fun f hf => ?_)
  · exact (nf_keep (fun Z : StM => Z.1 f) m_sv2 (fun _ _ => rfl) _ _).trans (nf_keep (fun Z : StM => Z.1 f) m_sv1 (fun _ _ => rfl) _ _)
  · have hn : ¬ f = 27 := by omega
    refine (nf_mar _ _ f (fun i Z => ?_)).trans (nf_mar _ _ f (fun i Z => ?_))
    · show va_up (va_up Z.2.2 27 _) 27 _ f = Z.2.2 f
      unfold va_up
      rw [if_neg hn, if_neg hn]
    · show va_up Z.2.2 27 _ f = Z.2.2 f
      unfold va_up
      rw [if_neg hn]

set_option maxHeartbeats 4000000 in
theorem cM_saveAll {G : Gx} (B : Base G) (a : Nat → Nat) (T : StM)  : Cv G yX1_saveAll cX1_saveAll 2 (rmD 0) (wM G a) T [.ref (a 0)] (fun S' => S' = m_saveAll T) := by
  refine Cv.of B [some (.ref (a 0)), none] (by decide) rfl (Nat.le_of_ble_eq_true rfl) (fun E C hR => ?_)
  have C : CxOk E RX1 cX1_saveAll 2 G (rmD 0) := C
  refine r_iconst (pc := 0) (0) C dX1_saveAll_0 (by decide) ?_
  refine r_istore_n (pc := 1) C dX1_saveAll_1 (by decide) ?_
  refine V_for (P := fun i Z => V E 2 0 0 (wM G a Z) 2 [some (.ref (a 0)), some (.int (nI i))] []) m_sv1 T 9 (fun i hi K2 => ?_) ?_
  · refine r_iload_n (pc := 2) C dX1_saveAll_2 rfl ?_
    refine r_bipush (pc := 3) (9) C dX1_saveAll_3 (by decide) ?_
    refine r_icmp_ge (pc := 5) 26 C dX1_saveAll_5 (by decide) (fun c5 => ?_) (fun c5 => ?_)
    · exact absurd c5 (lp_in R99 (by decide) hi)
    · refine r_aload_n (pc := 8) C dX1_saveAll_8 rfl ?_
      refine M_g27 (pc := 9) C dX1_saveAll_9 ?_
      refine r_iload_n (pc := 12) C dX1_saveAll_12 rfl ?_
      refine r_aload_n (pc := 13) C dX1_saveAll_13 rfl ?_
      refine M_g11 (pc := 14) C dX1_saveAll_14 ?_
      refine r_iload_n (pc := 17) C dX1_saveAll_17 rfl ?_
      refine M_l11 (pc := 18) C dX1_saveAll_18 (vp_in_nI hi (by decide)) ?_
      refine M_s27 (pc := 19) C dX1_saveAll_19 (vin15a hi) ?_
      refine r_iinc (pc := 20) _ C dX1_saveAll_20 rfl (nI_1 i) (by decide) ?_
      refine r_goto (pc := 23) 2 C dX1_saveAll_23 (by decide) ?_
      exact K2
  · refine r_iload_n (pc := 2) C dX1_saveAll_2 rfl ?_
    refine r_bipush (pc := 3) (9) C dX1_saveAll_3 (by decide) ?_
    refine r_icmp_ge (pc := 5) 26 C dX1_saveAll_5 (by decide) (fun c5 => ?_) (fun c5 => ?_)
    · refine r_iconst (pc := 26) (0) C dX1_saveAll_26 (by decide) ?_
      refine r_istore_n (pc := 27) C dX1_saveAll_27 (by decide) ?_
      refine V_for (P := fun i Z => V E 2 0 0 (wM G a Z) 28 [some (.ref (a 0)), some (.int (nI i))] []) m_sv2 (nf m_sv1 9 T) 3 (fun i hi K28 => ?_) ?_
      · refine r_iload_n (pc := 28) C dX1_saveAll_28 rfl ?_
        refine r_iconst (pc := 29) (3) C dX1_saveAll_29 (by decide) ?_
        refine r_icmp_ge (pc := 30) 69 C dX1_saveAll_30 (by decide) (fun c30 => ?_) (fun c30 => ?_)
        · exact absurd c30 (lp_in R33 (by decide) hi)
        · refine r_aload_n (pc := 33) C dX1_saveAll_33 rfl ?_
          refine M_g27 (pc := 34) C dX1_saveAll_34 ?_
          refine r_bipush (pc := 37) (9) C dX1_saveAll_37 (by decide) ?_
          refine r_iload_n (pc := 39) C dX1_saveAll_39 rfl ?_
          refine r_iadd (pc := 40) C dX1_saveAll_40 ?_
          refine r_aload_n (pc := 41) C dX1_saveAll_41 rfl ?_
          refine M_g5 (pc := 42) C dX1_saveAll_42 ?_
          refine r_iload_n (pc := 45) C dX1_saveAll_45 rfl ?_
          refine M_l5 (pc := 46) C dX1_saveAll_46 (vp_in_nI hi (by decide)) ?_
          refine M_s27 (pc := 47) C dX1_saveAll_47 (vin15b hi) ?_
          refine r_aload_n (pc := 48) C dX1_saveAll_48 rfl ?_
          refine M_g27 (pc := 49) C dX1_saveAll_49 ?_
          refine r_bipush (pc := 52) (12) C dX1_saveAll_52 (by decide) ?_
          refine r_iload_n (pc := 54) C dX1_saveAll_54 rfl ?_
          refine r_iadd (pc := 55) C dX1_saveAll_55 ?_
          refine r_aload_n (pc := 56) C dX1_saveAll_56 rfl ?_
          refine M_g10 (pc := 57) C dX1_saveAll_57 ?_
          refine r_iload_n (pc := 60) C dX1_saveAll_60 rfl ?_
          refine M_l10 (pc := 61) C dX1_saveAll_61 (vp_in_nI hi (by decide)) ?_
          refine M_s27 (pc := 62) C dX1_saveAll_62 (vin15c hi) ?_
          refine r_iinc (pc := 63) _ C dX1_saveAll_63 rfl (nI_1 i) (by decide) ?_
          refine r_goto (pc := 66) 28 C dX1_saveAll_66 (by decide) ?_
          exact K28
      · refine r_iload_n (pc := 28) C dX1_saveAll_28 rfl ?_
        refine r_iconst (pc := 29) (3) C dX1_saveAll_29 (by decide) ?_
        refine r_icmp_ge (pc := 30) 69 C dX1_saveAll_30 (by decide) (fun c30 => ?_) (fun c30 => ?_)
        · exact r_vret (pc := 69) C hR dX1_saveAll_69 (by decide) (by decide) rfl
        · exact absurd (lp_out R33 (by decide)) c30
    · exact absurd (lp_out R99 (by decide)) c5

set_option maxHeartbeats 4000000 in
theorem cM_loadAll {G : Gx} (B : Base G) (a : Nat → Nat) (T : StM)  : Cv G yX1_loadAll cX1_loadAll 2 (rmD 0) (wM G a) T [.ref (a 0)] (fun S' => S' = m_loadAll T) := by
  refine Cv.of B [some (.ref (a 0)), none] (by decide) rfl (Nat.le_of_ble_eq_true rfl) (fun E C hR => ?_)
  have C : CxOk E RX1 cX1_loadAll 2 G (rmD 0) := C
  refine r_iconst (pc := 0) (0) C dX1_loadAll_0 (by decide) ?_
  refine r_istore_n (pc := 1) C dX1_loadAll_1 (by decide) ?_
  refine V_for (P := fun i Z => V E 2 0 0 (wM G a Z) 2 [some (.ref (a 0)), some (.int (nI i))] []) m_ld1 T 9 (fun i hi K2 => ?_) ?_
  · refine r_iload_n (pc := 2) C dX1_loadAll_2 rfl ?_
    refine r_bipush (pc := 3) (9) C dX1_loadAll_3 (by decide) ?_
    refine r_icmp_ge (pc := 5) 26 C dX1_loadAll_5 (by decide) (fun c5 => ?_) (fun c5 => ?_)
    · exact absurd c5 (lp_in R99 (by decide) hi)
    · refine r_aload_n (pc := 8) C dX1_loadAll_8 rfl ?_
      refine M_g11 (pc := 9) C dX1_loadAll_9 ?_
      refine r_iload_n (pc := 12) C dX1_loadAll_12 rfl ?_
      refine r_aload_n (pc := 13) C dX1_loadAll_13 rfl ?_
      refine M_g27 (pc := 14) C dX1_loadAll_14 ?_
      refine r_iload_n (pc := 17) C dX1_loadAll_17 rfl ?_
      refine M_l27 (pc := 18) C dX1_loadAll_18 (vin15a hi) ?_
      refine M_s11 (pc := 19) C dX1_loadAll_19 (vp_in_nI hi (by decide)) ?_
      refine r_iinc (pc := 20) _ C dX1_loadAll_20 rfl (nI_1 i) (by decide) ?_
      refine r_goto (pc := 23) 2 C dX1_loadAll_23 (by decide) ?_
      exact K2
  · refine r_iload_n (pc := 2) C dX1_loadAll_2 rfl ?_
    refine r_bipush (pc := 3) (9) C dX1_loadAll_3 (by decide) ?_
    refine r_icmp_ge (pc := 5) 26 C dX1_loadAll_5 (by decide) (fun c5 => ?_) (fun c5 => ?_)
    · refine r_iconst (pc := 26) (0) C dX1_loadAll_26 (by decide) ?_
      refine r_istore_n (pc := 27) C dX1_loadAll_27 (by decide) ?_
      refine V_for (P := fun i Z => V E 2 0 0 (wM G a Z) 28 [some (.ref (a 0)), some (.int (nI i))] []) m_ld2 (nf m_ld1 9 T) 3 (fun i hi K28 => ?_) ?_
      · refine r_iload_n (pc := 28) C dX1_loadAll_28 rfl ?_
        refine r_iconst (pc := 29) (3) C dX1_loadAll_29 (by decide) ?_
        refine r_icmp_ge (pc := 30) 69 C dX1_loadAll_30 (by decide) (fun c30 => ?_) (fun c30 => ?_)
        · exact absurd c30 (lp_in R33 (by decide) hi)
        · refine r_aload_n (pc := 33) C dX1_loadAll_33 rfl ?_
          refine M_g5 (pc := 34) C dX1_loadAll_34 ?_
          refine r_iload_n (pc := 37) C dX1_loadAll_37 rfl ?_
          refine r_aload_n (pc := 38) C dX1_loadAll_38 rfl ?_
          refine M_g27 (pc := 39) C dX1_loadAll_39 ?_
          refine r_bipush (pc := 42) (9) C dX1_loadAll_42 (by decide) ?_
          refine r_iload_n (pc := 44) C dX1_loadAll_44 rfl ?_
          refine r_iadd (pc := 45) C dX1_loadAll_45 ?_
          refine M_l27 (pc := 46) C dX1_loadAll_46 (vin15b hi) ?_
          refine M_s5 (pc := 47) C dX1_loadAll_47 (vp_in_nI hi (by decide)) ?_
          refine r_aload_n (pc := 48) C dX1_loadAll_48 rfl ?_
          refine M_g10 (pc := 49) C dX1_loadAll_49 ?_
          refine r_iload_n (pc := 52) C dX1_loadAll_52 rfl ?_
          refine r_aload_n (pc := 53) C dX1_loadAll_53 rfl ?_
          refine M_g27 (pc := 54) C dX1_loadAll_54 ?_
          refine r_bipush (pc := 57) (12) C dX1_loadAll_57 (by decide) ?_
          refine r_iload_n (pc := 59) C dX1_loadAll_59 rfl ?_
          refine r_iadd (pc := 60) C dX1_loadAll_60 ?_
          refine M_l27 (pc := 61) C dX1_loadAll_61 (vin15c hi) ?_
          refine M_s10 (pc := 62) C dX1_loadAll_62 (vp_in_nI hi (by decide)) ?_
          refine r_iinc (pc := 63) _ C dX1_loadAll_63 rfl (nI_1 i) (by decide) ?_
          refine r_goto (pc := 66) 28 C dX1_loadAll_66 (by decide) ?_
          exact K28
      · refine r_iload_n (pc := 28) C dX1_loadAll_28 rfl ?_
        refine r_iconst (pc := 29) (3) C dX1_loadAll_29 (by decide) ?_
        refine r_icmp_ge (pc := 30) 69 C dX1_loadAll_30 (by decide) (fun c30 => ?_) (fun c30 => ?_)
        · exact r_vret (pc := 69) C hR dX1_loadAll_69 (by decide) (by decide) rfl
        · exact absurd (lp_out R33 (by decide)) c30
    · exact absurd (lp_out R99 (by decide)) c5

set_option maxHeartbeats 4000000 in
theorem cM_schoolsNow {G : Gx} (B : Base G) (a : Nat → Nat) (T : StM) (t seed w : Int32) (hI : IM T) (ht : Rg t 20) (hm : 0 < (T.1 6).toNatClampNeg) : Ci G yX1_schoolsNow cX1_schoolsNow 8 .int (rmD 4) (wM G a) T [.ref (a 0), .int t, .int seed, .int w] (fun r S' => r = m_schoolsNow T t seed w ∧ S' = m_loadAll (m_sC T t seed).1) := by
  refine Ci.of B [some (.ref (a 0)), some (.int t), some (.int seed), some (.int w), none, none, none, none] (by decide) rfl (Nat.le_of_ble_eq_true rfl) (fun E C hR => ?_)
  have C : CxOk E RX1 cX1_schoolsNow 8 G (rmD 4) := C
  have hm3 := hI.many.2
  have hA : SoM T (m_sA T seed) := ⟨IM_l (IM_saveAll hI) _ _, fun f => saveAll_i T f⟩
  obtain ⟨hN, hNe⟩ := tm_rg ht hI.many
  have hCk : ∀ k, SoM T (nf (m_so (T.1 1).toNatClampNeg (T.1 6).toNatClampNeg) k (m_sA T seed, 0)).1 := SoM.so (q := (m_sA T seed, 0)) hA hI.les.2 hm hm3
  have hC : SoM T (m_sC T t seed).1 := hCk _
  refine r_aload_n (pc := 0) C dX1_schoolsNow_0 rfl ?_
  refine M_cQv (pc := 1) C (cM_saveAll B a _) q1036 mX1_saveAll rfl dX1_schoolsNow_1 (by decide) (Nat.le_of_ble_eq_true rfl) ?_
  refine r_aload_n (pc := 4) C dX1_schoolsNow_4 rfl ?_
  refine r_iload_n (pc := 5) C dX1_schoolsNow_5 rfl ?_
  refine r_i2l (pc := 6) C dX1_schoolsNow_6 ?_
  refine M_p26 (pc := 7) C dX1_schoolsNow_7 ?_
  refine r_iconst (pc := 10) (0) C dX1_schoolsNow_10 (by decide) ?_
  refine r_istore (pc := 11) C dX1_schoolsNow_11 (by decide) ?_
  refine r_iconst (pc := 13) (0) C dX1_schoolsNow_13 (by decide) ?_
  refine r_istore (pc := 14) C dX1_schoolsNow_14 (by decide) ?_
  refine V_for (P := fun k q => V E 8 0 0 (wM G a q.1) 16 [some (.ref (a 0)), some (.int t), some (.int seed), some (.int w), some (.int q.2), some (.int (nI k)), none, none] []) (m_so (T.1 1).toNatClampNeg (T.1 6).toNatClampNeg) (m_sA T seed, 0) (t * T.1 6).toNatClampNeg (fun k hk K16 => ?_) ?_
  · have hZ0 := hCk k
    simp only [nf, m_so] at K16
    generalize nf (m_so (T.1 1).toNatClampNeg (T.1 6).toNatClampNeg) k (m_sA T seed, 0) = q0 at K16 hZ0 ⊢
    have hg0 := hZ0.2 6
    have hk60 : k < 60 := Nat.lt_of_lt_of_le hk hN.2
    have hp3 : vp_in (nI (k % (T.1 6).toNatClampNeg)) 3 := vp_in_nI (Nat.lt_of_lt_of_le (Nat.mod_lt _ hm) hm3) (by decide)
    refine r_iload (pc := 16) C dX1_schoolsNow_16 rfl ?_
    refine r_iload_n (pc := 18) C dX1_schoolsNow_18 rfl ?_
    refine r_aload_n (pc := 19) C dX1_schoolsNow_19 rfl ?_
    refine M_g6 (pc := 20) C dX1_schoolsNow_20 ?_
    refine r_imul (pc := 23) C dX1_schoolsNow_23 ?_
    refine r_icmp_ge (pc := 24) 92 C dX1_schoolsNow_24 (by decide) (fun c24 => ?_) (fun c24 => ?_)
    · rw [hg0] at c24
      exact absurd c24 (lp_in hN (by decide) hk)
    · refine r_iload (pc := 27) C dX1_schoolsNow_27 rfl ?_
      refine r_aload_n (pc := 29) C dX1_schoolsNow_29 rfl ?_
      refine M_g6 (pc := 30) C dX1_schoolsNow_30 ?_
      refine r_irem (pc := 33) C dX1_schoolsNow_33 (by rw [hg0]; exact fun e => absurd (by rw [hI.many.1] at e; exact (nI_eq (b := 0) (by omega) (by decide)).mp e) (Nat.ne_of_gt hm)) ?_
      rw [show nI k - nI k / q0.1.1 6 * q0.1.1 6 = nI (k % (T.1 6).toNatClampNeg) from by rw [hg0, hI.many.1, pk_rem (by omega) hm (by omega), nI_clamp (by omega)]]
      refine r_istore (pc := 34) C dX1_schoolsNow_34 (by decide) ?_
      refine r_iconst (pc := 36) (0) C dX1_schoolsNow_36 (by decide) ?_
      refine r_istore (pc := 37) C dX1_schoolsNow_37 (by decide) ?_
      refine V_for (P := fun l q => V E 8 0 0 (wM G a q.1) 39 [some (.ref (a 0)), some (.int t), some (.int seed), some (.int w), some (.int q.2), some (.int (nI k)), some (.int (nI (k % (T.1 6).toNatClampNeg))), some (.int (nI l))] []) (m_sg (nI (k % (T.1 6).toNatClampNeg))) q0 (T.1 1).toNatClampNeg (fun i hi K39 => ?_) ?_
      · have hi5 : i < 5 := Nat.lt_of_lt_of_le hi hI.les.2
        have hZ := SoM.sgn hZ0 hp3 i (Nat.le_of_lt hi5)
        simp only [nf] at K39
        generalize nf (m_sg (nI (k % (T.1 6).toNatClampNeg))) i q0 = q at K39 hZ ⊢
        have hg := hZ.2 1
        have hIZ := hZ.1
        have hl5 : vp_in (nI i) 5 := vp_in_nI hi5 (by decide)
        refine r_iload (pc := 39) C dX1_schoolsNow_39 rfl ?_
        refine r_aload_n (pc := 41) C dX1_schoolsNow_41 rfl ?_
        refine M_g1 (pc := 42) C dX1_schoolsNow_42 ?_
        refine r_icmp_ge (pc := 45) 86 C dX1_schoolsNow_45 (by decide) (fun c45 => ?_) (fun c45 => ?_)
        · rw [hg] at c45
          exact absurd c45 (lp_in hI.les (by decide) hi)
        · refine r_iload (pc := 48) C dX1_schoolsNow_48 rfl ?_
          refine r_aload_n (pc := 50) C dX1_schoolsNow_50 rfl ?_
          refine M_g10 (pc := 51) C dX1_schoolsNow_51 ?_
          refine r_iload (pc := 54) C dX1_schoolsNow_54 rfl ?_
          refine M_l10 (pc := 56) C dX1_schoolsNow_56 hp3 ?_
          refine r_iload (pc := 57) C dX1_schoolsNow_57 rfl ?_
          refine S_cQi (pc := 59) C (cM_has B _ _) q873 mX1_has rfl dX1_schoolsNow_59 (by decide) (Nat.le_of_ble_eq_true rfl) ?_
          refine r_if_eq (pc := 62) 69 C dX1_schoolsNow_62 (by decide) (fun c62 => ?_) (fun c62 => ?_)
          · refine r_aload_n (pc := 69) C dX1_schoolsNow_69 rfl ?_
            refine r_iload (pc := 70) C dX1_schoolsNow_70 rfl ?_
            refine r_iload (pc := 72) C dX1_schoolsNow_72 rfl ?_
            refine M_cQi (pc := 74) C (cM_goOne B a _ _ _ (by assumption) (by assumption) (by assumption)) q1040 mX1_goOne rfl dX1_schoolsNow_74 (by decide) (Nat.le_of_ble_eq_true rfl) ?_
            refine r_iadd (pc := 77) C dX1_schoolsNow_77 ?_
            refine r_istore (pc := 78) C dX1_schoolsNow_78 (by decide) ?_
            refine r_iinc (pc := 80) _ C dX1_schoolsNow_80 rfl (nI_1 i) (by decide) ?_
            refine r_goto (pc := 83) 39 C dX1_schoolsNow_83 (by decide) ?_
            rw [m_sg, if_pos c62] at K39
            exact K39
          · refine r_iconst (pc := 65) (0) C dX1_schoolsNow_65 (by decide) ?_
            refine r_goto (pc := 66) 77 C dX1_schoolsNow_66 (by decide) ?_
            refine r_iadd (pc := 77) C dX1_schoolsNow_77 ?_
            refine r_istore (pc := 78) C dX1_schoolsNow_78 (by decide) ?_
            refine r_iinc (pc := 80) _ C dX1_schoolsNow_80 rfl (nI_1 i) (by decide) ?_
            refine r_goto (pc := 83) 39 C dX1_schoolsNow_83 (by decide) ?_
            rw [m_sg, if_neg c62] at K39
            exact K39
      · have hg : (nf (m_sg (nI (k % (T.1 6).toNatClampNeg))) (T.1 1).toNatClampNeg q0).1.1 1 = T.1 1 := (SoM.sgn hZ0 hp3 _ hI.les.2).2 1
        refine r_iload (pc := 39) C dX1_schoolsNow_39 rfl ?_
        refine r_aload_n (pc := 41) C dX1_schoolsNow_41 rfl ?_
        refine M_g1 (pc := 42) C dX1_schoolsNow_42 ?_
        refine r_icmp_ge (pc := 45) 86 C dX1_schoolsNow_45 (by decide) (fun c45 => ?_) (fun c45 => ?_)
        · refine r_iinc (pc := 86) _ C dX1_schoolsNow_86 rfl (nI_1 k) (by decide) ?_
          refine r_goto (pc := 89) 16 C dX1_schoolsNow_89 (by decide) ?_
          refine V_sub ?_ K16
          intro q hq
          simp only [lset, lvo, lkill, List.mem_cons, List.not_mem_nil, or_false] at hq ⊢
          rcases hq with h | h | h | h | h | h <;> simp [h]
        · rw [hg] at c45
          exact absurd (lp_out hI.les (by decide)) c45
  · have hg0 : (m_sC T t seed).1.1 6 = T.1 6 := hC.2 6
    rw [show nf (m_so (T.1 1).toNatClampNeg (T.1 6).toNatClampNeg) (t * T.1 6).toNatClampNeg (m_sA T seed, 0) = m_sC T t seed from rfl]
    generalize hq : m_sC T t seed = qC at hC hg0 ⊢
    refine r_iload (pc := 16) C dX1_schoolsNow_16 rfl ?_
    refine r_iload_n (pc := 18) C dX1_schoolsNow_18 rfl ?_
    refine r_aload_n (pc := 19) C dX1_schoolsNow_19 rfl ?_
    refine M_g6 (pc := 20) C dX1_schoolsNow_20 ?_
    refine r_imul (pc := 23) C dX1_schoolsNow_23 ?_
    refine r_icmp_ge (pc := 24) 92 C dX1_schoolsNow_24 (by decide) (fun c24 => ?_) (fun c24 => ?_)
    · refine r_aload_n (pc := 92) C dX1_schoolsNow_92 rfl ?_
      refine M_cQi (pc := 93) C (cM_learntAll B a _ hC.1) q1052 mX1_learntAll rfl dX1_schoolsNow_93 (by decide) (Nat.le_of_ble_eq_true rfl) ?_
      refine r_istore (pc := 96) C dX1_schoolsNow_96 (by decide) ?_
      refine r_aload_n (pc := 98) C dX1_schoolsNow_98 rfl ?_
      refine M_cQv (pc := 99) C (cM_loadAll B a _) q1059 mX1_loadAll rfl dX1_schoolsNow_99 (by decide) (Nat.le_of_ble_eq_true rfl) ?_
      refine r_iload_n (pc := 102) C dX1_schoolsNow_102 rfl ?_
      refine r_if_ne (pc := 103) 111 C dX1_schoolsNow_103 (by decide) (fun c103 => ?_) (fun c103 => ?_)
      · refine r_iload_n (pc := 111) C dX1_schoolsNow_111 rfl ?_
        refine r_iconst (pc := 112) (1) C dX1_schoolsNow_112 (by decide) ?_
        refine r_icmp_ne (pc := 113) 121 C dX1_schoolsNow_113 (by decide) (fun c113 => ?_) (fun c113 => ?_)
        · refine r_aload_n (pc := 121) C dX1_schoolsNow_121 rfl ?_
          refine M_g26 (pc := 122) C dX1_schoolsNow_122 ?_
          refine r_l2i (pc := 125) C dX1_schoolsNow_125 ?_
          exact r_iret (pc := 126) C hR dX1_schoolsNow_126 (by decide) (by decide) ⟨by rw [m_schoolsNow, if_neg c103, if_neg c113, hq], by rw [hq]⟩
        · refine r_iload (pc := 116) C dX1_schoolsNow_116 rfl ?_
          refine r_goto (pc := 118) 126 C dX1_schoolsNow_118 (by decide) ?_
          exact r_iret (pc := 126) C hR dX1_schoolsNow_126 (by decide) (by decide) ⟨by rw [m_schoolsNow, if_neg c103, if_pos c113, hq], by rw [hq]⟩
      · refine r_iload (pc := 106) C dX1_schoolsNow_106 rfl ?_
        refine r_goto (pc := 108) 126 C dX1_schoolsNow_108 (by decide) ?_
        exact r_iret (pc := 126) C hR dX1_schoolsNow_126 (by decide) (by decide) ⟨by rw [m_schoolsNow, if_pos c103, hq], by rw [hq]⟩
    · rw [hg0] at c24
      exact absurd (lp_out hN (by decide)) c24

set_option maxHeartbeats 4000000 in
theorem cM_schools {G : Gx} (B : Base G) (a : Nat → Nat) (T : StM) (t seed w : Int32) (hI : IM T) : Ci G yX1_schools cX1_schools 4 .int (rmD 5) (wM G a) T [.ref (a 0), .int t, .int seed, .int w] (fun r S' => r = (m_schools T t seed w).1 ∧ S' = (m_schools T t seed w).2) := by
  refine Ci.of B [some (.ref (a 0)), some (.int t), some (.int seed), some (.int w)] (by decide) rfl (Nat.le_of_ble_eq_true rfl) (fun E C hR => ?_)
  have C : CxOk E RX1 cX1_schools 4 G (rmD 5) := C
  refine r_iload_n (pc := 0) C dX1_schools_0 rfl ?_
  refine r_iconst (pc := 1) (1) C dX1_schools_1 (by decide) ?_
  refine r_bipush (pc := 2) (20) C dX1_schools_2 (by decide) ?_
  refine S_cQi (pc := 4) C (cM_within B _ _ _) q826 mX1_within rfl dX1_schools_4 (by decide) (Nat.le_of_ble_eq_true rfl) ?_
  refine r_if_eq (pc := 7) 23 C dX1_schools_7 (by decide) (fun c7 => ?_) (fun c7 => ?_)
  · refine r_bipush (pc := 23) (-102) C dX1_schools_23 (by decide) ?_
    exact r_iret (pc := 25) C hR dX1_schools_25 (by decide) (by decide) ⟨by (rw [m_schools, if_pos c7] <;> rfl), by (rw [m_schools, if_pos c7] <;> rfl)⟩
  · refine r_iload_n (pc := 10) C dX1_schools_10 rfl ?_
    refine r_if_lt (pc := 11) 23 C dX1_schools_11 (by decide) (fun c11 => ?_) (fun c11 => ?_)
    · refine r_bipush (pc := 23) (-102) C dX1_schools_23 (by decide) ?_
      exact r_iret (pc := 25) C hR dX1_schools_25 (by decide) (by decide) ⟨by (rw [m_schools, if_neg c7, if_pos c11] <;> rfl), by (rw [m_schools, if_neg c7, if_pos c11] <;> rfl)⟩
    · refine r_iload_n (pc := 14) C dX1_schools_14 rfl ?_
      refine r_iconst (pc := 15) (0) C dX1_schools_15 (by decide) ?_
      refine r_iconst (pc := 16) (2) C dX1_schools_16 (by decide) ?_
      refine S_cQi (pc := 17) C (cM_within B _ _ _) q826 mX1_within rfl dX1_schools_17 (by decide) (Nat.le_of_ble_eq_true rfl) ?_
      refine r_if_ne (pc := 20) 26 C dX1_schools_20 (by decide) (fun c20 => ?_) (fun c20 => ?_)
      · refine r_aload_n (pc := 26) C dX1_schools_26 rfl ?_
        refine M_g6 (pc := 27) C dX1_schools_27 ?_
        refine r_if_ne (pc := 30) 38 C dX1_schools_30 (by decide) (fun c30 => ?_) (fun c30 => ?_)
        · have hm : 0 < (T.1 6).toNatClampNeg := Nat.pos_of_ne_zero fun e => c30 (by rw [hI.many.1, e]; decide)
          refine r_aload_n (pc := 38) C dX1_schools_38 rfl ?_
          refine r_iload_n (pc := 39) C dX1_schools_39 rfl ?_
          refine r_iload_n (pc := 40) C dX1_schools_40 rfl ?_
          refine r_iload_n (pc := 41) C dX1_schools_41 rfl ?_
          refine M_cQi (pc := 42) C (cM_schoolsNow B a _ _ _ _ (by assumption) (t_rg c7).1 (by assumption)) q1032 mX1_schoolsNow rfl dX1_schools_42 (by decide) (Nat.le_of_ble_eq_true rfl) ?_
          exact r_iret (pc := 45) C hR dX1_schools_45 (by decide) (by decide) ⟨by (rw [m_schools, if_neg c7, if_neg c11, if_neg c20, if_neg c30] <;> rfl), by (rw [m_schools, if_neg c7, if_neg c11, if_neg c20, if_neg c30] <;> rfl)⟩
        · refine r_bipush (pc := 33) (-103) C dX1_schools_33 (by decide) ?_
          refine r_goto (pc := 35) 45 C dX1_schools_35 (by decide) ?_
          exact r_iret (pc := 45) C hR dX1_schools_45 (by decide) (by decide) ⟨by (rw [m_schools, if_neg c7, if_neg c11, if_neg c20, if_pos c30] <;> rfl), by (rw [m_schools, if_neg c7, if_neg c11, if_neg c20, if_pos c30] <;> rfl)⟩
      · refine r_bipush (pc := 23) (-102) C dX1_schools_23 (by decide) ?_
        exact r_iret (pc := 25) C hR dX1_schools_25 (by decide) (by decide) ⟨by (rw [m_schools, if_neg c7, if_neg c11, if_pos c20] <;> rfl), by (rw [m_schools, if_neg c7, if_neg c11, if_pos c20] <;> rfl)⟩

set_option maxHeartbeats 4000000 in
theorem cM_image {G : Gx} (B : Base G) (a : Nat → Nat) (T : StM)  : Ci G yX1_image cX1_image 2 .int (rmD 1) (wM G a) T [.ref (a 0)] (fun r S' => r = (m_image T).1 ∧ S' = (m_image T).2) := by
  refine Ci.of B [some (.ref (a 0)), none] (by decide) rfl (Nat.le_of_ble_eq_true rfl) (fun E C hR => ?_)
  have C : CxOk E RX1 cX1_image 2 G (rmD 1) := C
  refine r_aload_n (pc := 0) C dX1_image_0 rfl ?_
  refine M_g1 (pc := 1) C dX1_image_1 ?_
  refine r_if_ne (pc := 4) 10 C dX1_image_4 (by decide) (fun c4 => ?_) (fun c4 => ?_)
  · refine r_aload_n (pc := 10) C dX1_image_10 rfl ?_
    refine r_iconst (pc := 11) (1) C dX1_image_11 (by decide) ?_
    refine M_p28 (pc := 12) C dX1_image_12 (by decide) ?_
    refine r_aload_n (pc := 15) C dX1_image_15 rfl ?_
    refine r_aload_n (pc := 16) C dX1_image_16 rfl ?_
    refine M_g0 (pc := 17) C dX1_image_17 ?_
    refine M_p29 (pc := 20) C dX1_image_20 ?_
    refine r_aload_n (pc := 23) C dX1_image_23 rfl ?_
    refine r_aload_n (pc := 24) C dX1_image_24 rfl ?_
    refine M_g6 (pc := 25) C dX1_image_25 ?_
    refine M_p30 (pc := 28) C dX1_image_28 ?_
    refine r_aload_n (pc := 31) C dX1_image_31 rfl ?_
    refine r_aload_n (pc := 32) C dX1_image_32 rfl ?_
    refine M_g12 (pc := 33) C dX1_image_33 ?_
    refine M_p31 (pc := 36) C dX1_image_36 ?_
    refine r_iconst (pc := 39) (0) C dX1_image_39 (by decide) ?_
    refine r_istore_n (pc := 40) C dX1_image_40 (by decide) ?_
    refine V_for (P := fun i Z => V E 2 0 0 (wM G a Z) 41 [some (.ref (a 0)), some (.int (nI i))] []) m_im1 (m_im0 T) 9 (fun i hi K41 => ?_) ?_
    · refine r_iload_n (pc := 41) C dX1_image_41 rfl ?_
      refine r_bipush (pc := 42) (9) C dX1_image_42 (by decide) ?_
      refine r_icmp_ge (pc := 44) 65 C dX1_image_44 (by decide) (fun c44 => ?_) (fun c44 => ?_)
      · exact absurd c44 (lp_in R99 (by decide) hi)
      · refine r_aload_n (pc := 47) C dX1_image_47 rfl ?_
        refine M_g32 (pc := 48) C dX1_image_48 ?_
        refine r_iload_n (pc := 51) C dX1_image_51 rfl ?_
        refine r_aload_n (pc := 52) C dX1_image_52 rfl ?_
        refine M_g11 (pc := 53) C dX1_image_53 ?_
        refine r_iload_n (pc := 56) C dX1_image_56 rfl ?_
        refine M_l11 (pc := 57) C dX1_image_57 (vp_in_nI hi (by decide)) ?_
        refine M_s32 (pc := 58) C dX1_image_58 (vp_in_nI hi (by decide)) ?_
        refine r_iinc (pc := 59) _ C dX1_image_59 rfl (nI_1 i) (by decide) ?_
        refine r_goto (pc := 62) 41 C dX1_image_62 (by decide) ?_
        exact K41
    · refine r_iload_n (pc := 41) C dX1_image_41 rfl ?_
      refine r_bipush (pc := 42) (9) C dX1_image_42 (by decide) ?_
      refine r_icmp_ge (pc := 44) 65 C dX1_image_44 (by decide) (fun c44 => ?_) (fun c44 => ?_)
      · refine r_iconst (pc := 65) (0) C dX1_image_65 (by decide) ?_
        refine r_istore_n (pc := 66) C dX1_image_66 (by decide) ?_
        refine V_for (P := fun i Z => V E 2 0 0 (wM G a Z) 67 [some (.ref (a 0)), some (.int (nI i))] []) m_im2 (nf m_im1 9 (m_im0 T)) 3 (fun i hi K67 => ?_) ?_
        · refine r_iload_n (pc := 67) C dX1_image_67 rfl ?_
          refine r_iconst (pc := 68) (3) C dX1_image_68 (by decide) ?_
          refine r_icmp_ge (pc := 69) 114 C dX1_image_69 (by decide) (fun c69 => ?_) (fun c69 => ?_)
          · exact absurd c69 (lp_in R33 (by decide) hi)
          · refine r_aload_n (pc := 72) C dX1_image_72 rfl ?_
            refine M_g33 (pc := 73) C dX1_image_73 ?_
            refine r_iload_n (pc := 76) C dX1_image_76 rfl ?_
            refine r_aload_n (pc := 77) C dX1_image_77 rfl ?_
            refine M_g5 (pc := 78) C dX1_image_78 ?_
            refine r_iload_n (pc := 81) C dX1_image_81 rfl ?_
            refine M_l5 (pc := 82) C dX1_image_82 (vp_in_nI hi (by decide)) ?_
            refine M_s33 (pc := 83) C dX1_image_83 (vp_in_nI hi (by decide)) ?_
            refine r_aload_n (pc := 84) C dX1_image_84 rfl ?_
            refine M_g34 (pc := 85) C dX1_image_85 ?_
            refine r_iload_n (pc := 88) C dX1_image_88 rfl ?_
            refine r_aload_n (pc := 89) C dX1_image_89 rfl ?_
            refine M_g10 (pc := 90) C dX1_image_90 ?_
            refine r_iload_n (pc := 93) C dX1_image_93 rfl ?_
            refine M_l10 (pc := 94) C dX1_image_94 (vp_in_nI hi (by decide)) ?_
            refine M_s34 (pc := 95) C dX1_image_95 (vp_in_nI hi (by decide)) ?_
            refine r_aload_n (pc := 96) C dX1_image_96 rfl ?_
            refine M_g35 (pc := 97) C dX1_image_97 ?_
            refine r_iload_n (pc := 100) C dX1_image_100 rfl ?_
            refine r_aload_n (pc := 101) C dX1_image_101 rfl ?_
            refine M_g9 (pc := 102) C dX1_image_102 ?_
            refine r_iload_n (pc := 105) C dX1_image_105 rfl ?_
            refine M_l9 (pc := 106) C dX1_image_106 (vp_in_nI hi (by decide)) ?_
            refine M_s35 (pc := 107) C dX1_image_107 (vp_in_nI hi (by decide)) ?_
            refine r_iinc (pc := 108) _ C dX1_image_108 rfl (nI_1 i) (by decide) ?_
            refine r_goto (pc := 111) 67 C dX1_image_111 (by decide) ?_
            exact K67
        · refine r_iload_n (pc := 67) C dX1_image_67 rfl ?_
          refine r_iconst (pc := 68) (3) C dX1_image_68 (by decide) ?_
          refine r_icmp_ge (pc := 69) 114 C dX1_image_69 (by decide) (fun c69 => ?_) (fun c69 => ?_)
          · refine r_iconst (pc := 114) (0) C dX1_image_114 (by decide) ?_
            refine r_istore_n (pc := 115) C dX1_image_115 (by decide) ?_
            refine V_for (P := fun i Z => V E 2 0 0 (wM G a Z) 116 [some (.ref (a 0)), some (.int (nI i))] []) m_im3 (nf m_im2 3 (nf m_im1 9 (m_im0 T))) 6 (fun i hi K116 => ?_) ?_
            · refine r_iload_n (pc := 116) C dX1_image_116 rfl ?_
              refine r_bipush (pc := 117) (6) C dX1_image_117 (by decide) ?_
              refine r_icmp_ge (pc := 119) 164 C dX1_image_119 (by decide) (fun c119 => ?_) (fun c119 => ?_)
              · exact absurd c119 (lp_in R66 (by decide) hi)
              · refine r_aload_n (pc := 122) C dX1_image_122 rfl ?_
                refine M_g36 (pc := 123) C dX1_image_123 ?_
                refine r_iload_n (pc := 126) C dX1_image_126 rfl ?_
                refine r_aload_n (pc := 127) C dX1_image_127 rfl ?_
                refine M_g13 (pc := 128) C dX1_image_128 ?_
                refine r_iload_n (pc := 131) C dX1_image_131 rfl ?_
                refine M_l13 (pc := 132) C dX1_image_132 (vp_in_nI hi (by decide)) ?_
                refine M_s36 (pc := 133) C dX1_image_133 (vp_in_nI hi (by decide)) ?_
                refine r_aload_n (pc := 134) C dX1_image_134 rfl ?_
                refine M_g37 (pc := 135) C dX1_image_135 ?_
                refine r_iload_n (pc := 138) C dX1_image_138 rfl ?_
                refine r_aload_n (pc := 139) C dX1_image_139 rfl ?_
                refine M_g14 (pc := 140) C dX1_image_140 ?_
                refine r_iload_n (pc := 143) C dX1_image_143 rfl ?_
                refine M_l14 (pc := 144) C dX1_image_144 (vp_in_nI hi (by decide)) ?_
                refine M_s37 (pc := 145) C dX1_image_145 (vp_in_nI hi (by decide)) ?_
                refine r_aload_n (pc := 146) C dX1_image_146 rfl ?_
                refine M_g38 (pc := 147) C dX1_image_147 ?_
                refine r_iload_n (pc := 150) C dX1_image_150 rfl ?_
                refine r_aload_n (pc := 151) C dX1_image_151 rfl ?_
                refine M_g15 (pc := 152) C dX1_image_152 ?_
                refine r_iload_n (pc := 155) C dX1_image_155 rfl ?_
                refine M_l15 (pc := 156) C dX1_image_156 (vp_in_nI hi (by decide)) ?_
                refine M_s38 (pc := 157) C dX1_image_157 (vp_in_nI hi (by decide)) ?_
                refine r_iinc (pc := 158) _ C dX1_image_158 rfl (nI_1 i) (by decide) ?_
                refine r_goto (pc := 161) 116 C dX1_image_161 (by decide) ?_
                exact K116
            · refine r_iload_n (pc := 116) C dX1_image_116 rfl ?_
              refine r_bipush (pc := 117) (6) C dX1_image_117 (by decide) ?_
              refine r_icmp_ge (pc := 119) 164 C dX1_image_119 (by decide) (fun c119 => ?_) (fun c119 => ?_)
              · refine r_aload_n (pc := 164) C dX1_image_164 rfl ?_
                refine M_cQi (pc := 165) C (cM_stripesAll B a _) q1067 mX1_stripesAll rfl dX1_image_165 (by decide) (Nat.le_of_ble_eq_true rfl) ?_
                exact r_iret (pc := 168) C hR dX1_image_168 (by decide) (by decide) ⟨by (rw [m_image, if_neg c4] <;> rfl), by (rw [m_image, if_neg c4] <;> rfl)⟩
              · exact absurd (lp_out R66 (by decide)) c119
          · exact absurd (lp_out R33 (by decide)) c69
      · exact absurd (lp_out R99 (by decide)) c44
  · refine r_bipush (pc := 7) (-103) C dX1_image_7 (by decide) ?_
    exact r_iret (pc := 9) C hR dX1_image_9 (by decide) (by decide) ⟨by (rw [m_image, if_pos c4] <;> rfl), by (rw [m_image, if_pos c4] <;> rfl)⟩

set_option maxHeartbeats 4000000 in
theorem cM_restore {G : Gx} (B : Base G) (a : Nat → Nat) (T : StM)  : Ci G yX1_restore cX1_restore 2 .int (rmD 1) (wM G a) T [.ref (a 0)] (fun r S' => r = (m_restore T).1 ∧ S' = (m_restore T).2) := by
  refine Ci.of B [some (.ref (a 0)), none] (by decide) rfl (Nat.le_of_ble_eq_true rfl) (fun E C hR => ?_)
  have C : CxOk E RX1 cX1_restore 2 G (rmD 1) := C
  refine r_aload_n (pc := 0) C dX1_restore_0 rfl ?_
  refine M_g28 (pc := 1) C dX1_restore_1 ?_
  refine r_if_eq (pc := 4) 18 C dX1_restore_4 (by decide) (fun c4 => ?_) (fun c4 => ?_)
  · refine r_bipush (pc := 18) (-103) C dX1_restore_18 (by decide) ?_
    exact r_iret (pc := 20) C hR dX1_restore_20 (by decide) (by decide) ⟨by (rw [m_restore, if_pos c4] <;> rfl), by (rw [m_restore, if_pos c4] <;> rfl)⟩
  · refine r_aload_n (pc := 7) C dX1_restore_7 rfl ?_
    refine M_g29 (pc := 8) C dX1_restore_8 ?_
    refine r_aload_n (pc := 11) C dX1_restore_11 rfl ?_
    refine M_g0 (pc := 12) C dX1_restore_12 ?_
    refine r_icmp_eq (pc := 15) 21 C dX1_restore_15 (by decide) (fun c15 => ?_) (fun c15 => ?_)
    · refine r_aload_n (pc := 21) C dX1_restore_21 rfl ?_
      refine r_aload_n (pc := 22) C dX1_restore_22 rfl ?_
      refine M_g30 (pc := 23) C dX1_restore_23 ?_
      refine M_p6 (pc := 26) C dX1_restore_26 ?_
      refine r_aload_n (pc := 29) C dX1_restore_29 rfl ?_
      refine r_aload_n (pc := 30) C dX1_restore_30 rfl ?_
      refine M_g31 (pc := 31) C dX1_restore_31 ?_
      refine M_p12 (pc := 34) C dX1_restore_34 ?_
      refine r_iconst (pc := 37) (0) C dX1_restore_37 (by decide) ?_
      refine r_istore_n (pc := 38) C dX1_restore_38 (by decide) ?_
      refine V_for (P := fun i Z => V E 2 0 0 (wM G a Z) 39 [some (.ref (a 0)), some (.int (nI i))] []) m_re1 (m_re0 T) 9 (fun i hi K39 => ?_) ?_
      · refine r_iload_n (pc := 39) C dX1_restore_39 rfl ?_
        refine r_bipush (pc := 40) (9) C dX1_restore_40 (by decide) ?_
        refine r_icmp_ge (pc := 42) 63 C dX1_restore_42 (by decide) (fun c42 => ?_) (fun c42 => ?_)
        · exact absurd c42 (lp_in R99 (by decide) hi)
        · refine r_aload_n (pc := 45) C dX1_restore_45 rfl ?_
          refine M_g11 (pc := 46) C dX1_restore_46 ?_
          refine r_iload_n (pc := 49) C dX1_restore_49 rfl ?_
          refine r_aload_n (pc := 50) C dX1_restore_50 rfl ?_
          refine M_g32 (pc := 51) C dX1_restore_51 ?_
          refine r_iload_n (pc := 54) C dX1_restore_54 rfl ?_
          refine M_l32 (pc := 55) C dX1_restore_55 (vp_in_nI hi (by decide)) ?_
          refine M_s11 (pc := 56) C dX1_restore_56 (vp_in_nI hi (by decide)) ?_
          refine r_iinc (pc := 57) _ C dX1_restore_57 rfl (nI_1 i) (by decide) ?_
          refine r_goto (pc := 60) 39 C dX1_restore_60 (by decide) ?_
          exact K39
      · refine r_iload_n (pc := 39) C dX1_restore_39 rfl ?_
        refine r_bipush (pc := 40) (9) C dX1_restore_40 (by decide) ?_
        refine r_icmp_ge (pc := 42) 63 C dX1_restore_42 (by decide) (fun c42 => ?_) (fun c42 => ?_)
        · refine r_iconst (pc := 63) (0) C dX1_restore_63 (by decide) ?_
          refine r_istore_n (pc := 64) C dX1_restore_64 (by decide) ?_
          refine V_for (P := fun i Z => V E 2 0 0 (wM G a Z) 65 [some (.ref (a 0)), some (.int (nI i))] []) m_re2 (nf m_re1 9 (m_re0 T)) 3 (fun i hi K65 => ?_) ?_
          · refine r_iload_n (pc := 65) C dX1_restore_65 rfl ?_
            refine r_iconst (pc := 66) (3) C dX1_restore_66 (by decide) ?_
            refine r_icmp_ge (pc := 67) 112 C dX1_restore_67 (by decide) (fun c67 => ?_) (fun c67 => ?_)
            · exact absurd c67 (lp_in R33 (by decide) hi)
            · refine r_aload_n (pc := 70) C dX1_restore_70 rfl ?_
              refine M_g5 (pc := 71) C dX1_restore_71 ?_
              refine r_iload_n (pc := 74) C dX1_restore_74 rfl ?_
              refine r_aload_n (pc := 75) C dX1_restore_75 rfl ?_
              refine M_g33 (pc := 76) C dX1_restore_76 ?_
              refine r_iload_n (pc := 79) C dX1_restore_79 rfl ?_
              refine M_l33 (pc := 80) C dX1_restore_80 (vp_in_nI hi (by decide)) ?_
              refine M_s5 (pc := 81) C dX1_restore_81 (vp_in_nI hi (by decide)) ?_
              refine r_aload_n (pc := 82) C dX1_restore_82 rfl ?_
              refine M_g10 (pc := 83) C dX1_restore_83 ?_
              refine r_iload_n (pc := 86) C dX1_restore_86 rfl ?_
              refine r_aload_n (pc := 87) C dX1_restore_87 rfl ?_
              refine M_g34 (pc := 88) C dX1_restore_88 ?_
              refine r_iload_n (pc := 91) C dX1_restore_91 rfl ?_
              refine M_l34 (pc := 92) C dX1_restore_92 (vp_in_nI hi (by decide)) ?_
              refine M_s10 (pc := 93) C dX1_restore_93 (vp_in_nI hi (by decide)) ?_
              refine r_aload_n (pc := 94) C dX1_restore_94 rfl ?_
              refine M_g9 (pc := 95) C dX1_restore_95 ?_
              refine r_iload_n (pc := 98) C dX1_restore_98 rfl ?_
              refine r_aload_n (pc := 99) C dX1_restore_99 rfl ?_
              refine M_g35 (pc := 100) C dX1_restore_100 ?_
              refine r_iload_n (pc := 103) C dX1_restore_103 rfl ?_
              refine M_l35 (pc := 104) C dX1_restore_104 (vp_in_nI hi (by decide)) ?_
              refine M_s9 (pc := 105) C dX1_restore_105 (vp_in_nI hi (by decide)) ?_
              refine r_iinc (pc := 106) _ C dX1_restore_106 rfl (nI_1 i) (by decide) ?_
              refine r_goto (pc := 109) 65 C dX1_restore_109 (by decide) ?_
              exact K65
          · refine r_iload_n (pc := 65) C dX1_restore_65 rfl ?_
            refine r_iconst (pc := 66) (3) C dX1_restore_66 (by decide) ?_
            refine r_icmp_ge (pc := 67) 112 C dX1_restore_67 (by decide) (fun c67 => ?_) (fun c67 => ?_)
            · refine r_iconst (pc := 112) (0) C dX1_restore_112 (by decide) ?_
              refine r_istore_n (pc := 113) C dX1_restore_113 (by decide) ?_
              refine V_for (P := fun i Z => V E 2 0 0 (wM G a Z) 114 [some (.ref (a 0)), some (.int (nI i))] []) m_re3 (nf m_re2 3 (nf m_re1 9 (m_re0 T))) 6 (fun i hi K114 => ?_) ?_
              · refine r_iload_n (pc := 114) C dX1_restore_114 rfl ?_
                refine r_bipush (pc := 115) (6) C dX1_restore_115 (by decide) ?_
                refine r_icmp_ge (pc := 117) 162 C dX1_restore_117 (by decide) (fun c117 => ?_) (fun c117 => ?_)
                · exact absurd c117 (lp_in R66 (by decide) hi)
                · refine r_aload_n (pc := 120) C dX1_restore_120 rfl ?_
                  refine M_g13 (pc := 121) C dX1_restore_121 ?_
                  refine r_iload_n (pc := 124) C dX1_restore_124 rfl ?_
                  refine r_aload_n (pc := 125) C dX1_restore_125 rfl ?_
                  refine M_g36 (pc := 126) C dX1_restore_126 ?_
                  refine r_iload_n (pc := 129) C dX1_restore_129 rfl ?_
                  refine M_l36 (pc := 130) C dX1_restore_130 (vp_in_nI hi (by decide)) ?_
                  refine M_s13 (pc := 131) C dX1_restore_131 (vp_in_nI hi (by decide)) ?_
                  refine r_aload_n (pc := 132) C dX1_restore_132 rfl ?_
                  refine M_g14 (pc := 133) C dX1_restore_133 ?_
                  refine r_iload_n (pc := 136) C dX1_restore_136 rfl ?_
                  refine r_aload_n (pc := 137) C dX1_restore_137 rfl ?_
                  refine M_g37 (pc := 138) C dX1_restore_138 ?_
                  refine r_iload_n (pc := 141) C dX1_restore_141 rfl ?_
                  refine M_l37 (pc := 142) C dX1_restore_142 (vp_in_nI hi (by decide)) ?_
                  refine M_s14 (pc := 143) C dX1_restore_143 (vp_in_nI hi (by decide)) ?_
                  refine r_aload_n (pc := 144) C dX1_restore_144 rfl ?_
                  refine M_g15 (pc := 145) C dX1_restore_145 ?_
                  refine r_iload_n (pc := 148) C dX1_restore_148 rfl ?_
                  refine r_aload_n (pc := 149) C dX1_restore_149 rfl ?_
                  refine M_g38 (pc := 150) C dX1_restore_150 ?_
                  refine r_iload_n (pc := 153) C dX1_restore_153 rfl ?_
                  refine M_l38 (pc := 154) C dX1_restore_154 (vp_in_nI hi (by decide)) ?_
                  refine M_s15 (pc := 155) C dX1_restore_155 (vp_in_nI hi (by decide)) ?_
                  refine r_iinc (pc := 156) _ C dX1_restore_156 rfl (nI_1 i) (by decide) ?_
                  refine r_goto (pc := 159) 114 C dX1_restore_159 (by decide) ?_
                  exact K114
              · refine r_iload_n (pc := 114) C dX1_restore_114 rfl ?_
                refine r_bipush (pc := 115) (6) C dX1_restore_115 (by decide) ?_
                refine r_icmp_ge (pc := 117) 162 C dX1_restore_117 (by decide) (fun c117 => ?_) (fun c117 => ?_)
                · refine r_aload_n (pc := 162) C dX1_restore_162 rfl ?_
                  refine M_cQi (pc := 163) C (cM_stripesAll B a _) q1067 mX1_stripesAll rfl dX1_restore_163 (by decide) (Nat.le_of_ble_eq_true rfl) ?_
                  exact r_iret (pc := 166) C hR dX1_restore_166 (by decide) (by decide) ⟨by (rw [m_restore, if_neg c4, if_pos c15] <;> rfl), by (rw [m_restore, if_neg c4, if_pos c15] <;> rfl)⟩
                · exact absurd (lp_out R66 (by decide)) c117
            · exact absurd (lp_out R33 (by decide)) c67
        · exact absurd (lp_out R99 (by decide)) c42
    · refine r_bipush (pc := 18) (-103) C dX1_restore_18 (by decide) ?_
      exact r_iret (pc := 20) C hR dX1_restore_20 (by decide) (by decide) ⟨by (rw [m_restore, if_neg c4, if_neg c15] <;> rfl), by (rw [m_restore, if_neg c4, if_neg c15] <;> rfl)⟩

