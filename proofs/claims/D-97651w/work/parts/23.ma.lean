
set_option maxRecDepth 100000
def IM (T : StM) : Prop := Rg (T.1 1) 5 ∧ Rg (T.1 6) 3 ∧ Rg (T.1 12) 6 ∧ Rg (T.1 17) 18 ∧ (∀ p, p < 3 → Rg (mar T 7 p) 4 ∧ Rg (mar T 8 p) 9 ∧ Rg (mar T 9 p) 2 ∧ Rg (mar T 10 p) 31 ∧ Rg (mar T 35 p) 2 ∧ Rg (mar T 34 p) 31) ∧ (∀ j, j < 9 → Rg (mar T 11 j) 9 ∧ Rg (mar T 32 j) 9) ∧ (∀ j, j < 5 → Rg (mar T 3 j) 9 ∧ Rg (mar T 4 j) 5) ∧ (∀ j, j < 6 → Rg (mar T 14 j) 4 ∧ Rg (mar T 37 j) 4) ∧ Rg (T.1 30) 3 ∧ Rg (T.1 31) 6
theorem IM.les {T : StM} (h : IM T) : Rg (T.1 1) 5 := h.1
theorem IM.many {T : StM} (h : IM T) : Rg (T.1 6) 3 := h.2.1
theorem IM.heard {T : StM} (h : IM T) : Rg (T.1 12) 6 := h.2.2.1
theorem IM.page {T : StM} (h : IM T) : Rg (T.1 17) 18 := h.2.2.2.1
theorem vp_lt {p : Int32} {n : Nat} (h : vp_in p n) (hn : n < 2 ^ 31) : p.toNatClampNeg < n ∧ p = nI p.toNatClampNeg := by
  obtain ⟨j, hj, rfl⟩ := vp_in_of h hn
  rw [nI_clamp (by omega)]
  exact ⟨hj, rfl⟩
theorem IM.kd {T : StM} (h : IM T) {p : Int32} (hp : vp_in p 3) : Rg (mar T 7 p.toNatClampNeg) 4 := (h.2.2.2.2.1 _ (vp_lt hp (by decide)).1).1
theorem IM.boy {T : StM} (h : IM T) {p : Int32} (hp : vp_in p 3) : Rg (mar T 9 p.toNatClampNeg) 2 := (h.2.2.2.2.1 _ (vp_lt hp (by decide)).1).2.2.1
theorem IM.heL {T : StM} (h : IM T) {j : Nat} (hj : j < 6) : Rg (mar T 14 j) 4 := (h.2.2.2.2.2.2.2.1 j hj).1
theorem IM.pr {T : StM} (h : IM T) {p : Int32} (hp : ¬ m_isPrince T p = 0) : vp_in p 3 := by
  obtain ⟨h1, h2⟩ := jin_cnt h.many (by decide) hp
  have := h.many.2
  rw [h1]
  exact vp_in_nI (by omega) (by decide)
theorem IM.ls {T : StM} (h : IM T) {l : Int32} (hl : ¬ m_isLesson T l = 0) : vp_in l 5 := by
  obtain ⟨h1, h2⟩ := jin_cnt h.les (by decide) hl
  have := h.les.2
  rw [h1]
  exact vp_in_nI (by omega) (by decide)
theorem vin9p {p b : Int32} (hp : vp_in p 3) (hb : Rg b 2) : vp_in (3 * p + b) 9 := by
  obtain ⟨h1, h2⟩ := vp_lt hp (by decide)
  rw [h2]
  exact vin9 h1 hb
theorem m_boy_in {T : StM} {b : Int32} (h : ¬ m_isBoy T b = 0) : Rg b 2 := by
  unfold m_isBoy at h
  split at h
  · exact absurd rfl h
  · exact boy_in h
theorem clampTo_lo {hi v : Int32} (h0 : 0 < hi) (h : ¬ 0 ≤ v) : clampTo hi v = 0 := by
  have h1 : v < 0 := Int32.not_le.mp h
  have h2 : v < hi := Int32.lt_trans h1 h0
  unfold clampTo
  rw [if_pos h2, if_neg (fun h3 => Int32.lt_irrefl (Int32.lt_trans h1 h3))]
theorem clampTo_hi {hi v : Int32} (h0 : 0 < hi) (h : ¬ v ≤ hi) : clampTo hi v = hi := by
  have h1 : hi < v := Int32.not_le.mp h
  unfold clampTo
  rw [if_neg (fun h3 => Int32.lt_irrefl (Int32.lt_trans h1 h3)), if_pos h0]
theorem clampTo_mid {hi v : Int32} (h0 : 0 ≤ v) (h : v ≤ hi) : clampTo hi v = v := by
  unfold clampTo
  by_cases h1 : v < hi
  · rw [if_pos h1]
    by_cases h2 : 0 < v
    · rw [if_pos h2]
    · rw [if_neg h2]
      exact Int32.le_antisymm h0 (Int32.not_lt.mp h2)
  · have e : v = hi := Int32.le_antisymm h (Int32.not_lt.mp h1)
    subst e
    rw [if_neg h1]
    by_cases h2 : 0 < v
    · rw [if_pos h2]
    · rw [if_neg h2]
      exact Int32.le_antisymm h0 (Int32.not_lt.mp h2)
theorem fondNext_le {lim f s : Int32} (h : s ≤ lim) : fondNext lim f s = clampTo 9 (f + 1) := congrArg (clampTo 9) (if_pos h)
theorem fondNext_gt {lim f s : Int32} (h : ¬ s ≤ lim) : fondNext lim f s = clampTo 9 (f + (-2)) := by
  unfold fondNext
  rw [if_neg h, Int32.sub_eq_add_neg]
def m_who (T : StM) (l : Int32) (i : Nat) (bits : Int32) : Int32 := bits ||| (if jhas (mar T 10 i) l = 0 then 0 else (1 : Int32) <<< (nI i &&& 31))
def m_learntBy (T : StM) (l : Int32) : Int32 := nf (m_who T l) (T.1 6).toNatClampNeg 0
def m_lessonNow (T : StM) (l what : Int32) : Int32 := if what = 0 then mar T 3 l.toNatClampNeg else if what = 1 then mar T 4 l.toNatClampNeg else m_learntBy T l
def m_lesson (T : StM) (l what : Int32) : Int32 := if m_isLesson T l = 0 then -101 else if jin what 0 2 = 0 then -102 else m_lessonNow T l what
def m_stripes (T : StM) (b : Int32) : Int32 := if m_isBoy T b = 0 then -101 else mar T 5 b.toNatClampNeg
def m_prf (p : Int32) (i : Nat) (T : StM) : StM := setMa T 11 (upd (mar T 11) (3 * p + nI i).toNatClampNeg 5)
def m_prS (T : StM) (k w : Int32) : StM := setMa (setMa (setMa (setMa T 7 (upd (mar T 7) (T.1 6).toNatClampNeg k)) 8 (upd (mar T 8) (T.1 6).toNatClampNeg w)) 9 (upd (mar T 9) (T.1 6).toNatClampNeg (T.1 6))) 10 (upd (mar T 10) (T.1 6).toNatClampNeg 0)
def m_prince (T : StM) (k w : Int32) : Int32 × StM := if jin k 0 4 = 0 then (-102, T) else if jin w 0 9 = 0 then (-102, T) else if T.1 1 = 0 then (-103, T) else if T.1 6 = 3 then (-104, T) else (T.1 6, setMi (nf (m_prf (T.1 6)) 3 (m_prS T k w)) 6 (T.1 6 + 1))
def m_fondOf (T : StM) (p : Int32) : Int32 := mar T 11 (3 * p + mar T 9 p.toNatClampNeg).toNatClampNeg
def m_feelsNow (T : StM) (p : Int32) : Int32 := feels (mar T 7 p.toNatClampNeg).toNatClampNeg (m_fondOf T p)
def m_tenthsBy (T : StM) (p l f : Int32) : Int32 := tenthsF (mar T 7 p.toNatClampNeg).toNatClampNeg (mar T 8 p.toNatClampNeg) (mar T 3 l.toNatClampNeg) f
def m_tenthsNow (T : StM) (p l : Int32) : Int32 := m_tenthsBy T p l (m_fondOf T p)
def m_princeNow (T : StM) (p w : Int32) : Int32 := if w = 0 then mar T 7 p.toNatClampNeg else if w = 1 then mar T 8 p.toNatClampNeg else if w = 2 then mar T 9 p.toNatClampNeg else if w = 3 then m_feelsNow T p else if w = 4 then mar T 10 p.toNatClampNeg else mar T 11 (3 * p + w - 10).toNatClampNeg
def m_about (T : StM) (p w : Int32) : Int32 := if m_isPrince T p = 0 then -101 else if jin w 0 4 = 0 then (if jin w 10 12 = 0 then -102 else m_princeNow T p w) else m_princeNow T p w
def m_as (T : StM) (p k : Int32) : Int32 := if m_isPrince T p = 0 then -101 else if jin k 0 4 = 0 then -102 else if k = 0 then p else if mar T 7 p.toNatClampNeg = k then p else if k = 1 then (if mar T 7 p.toNatClampNeg = 4 then p else -1) else -1
def m_give (T : StM) (p b : Int32) : Int32 × StM := if m_isPrince T p = 0 then (-101, T) else if m_isBoy T b = 0 then (-101, T) else (mar T 9 p.toNatClampNeg, setMa T 9 (upd (mar T 9) p.toNatClampNeg b))
def m_fond (T : StM) (p b v : Int32) : Int32 × StM := if m_isPrince T p = 0 then (-101, T) else if m_isBoy T b = 0 then (-101, T) else if jin v 0 9 = 0 then (-102, T) else (mar T 11 (3 * p + b).toNatClampNeg, setMa T 11 (upd (mar T 11) (3 * p + b).toNatClampNeg v))
def m_tenths (T : StM) (p l : Int32) : Int32 := if m_isPrince T p = 0 then -101 else if m_isLesson T l = 0 then -101 else m_tenthsNow T p l
def m_beat (T : StM) (p l : Int32) : StM := setMa T 5 (upd (mar T 5) (mar T 9 p.toNatClampNeg).toNatClampNeg (mar T 5 (mar T 9 p.toNatClampNeg).toNatClampNeg + mar T 4 l.toNatClampNeg))
def m_fail (T : StM) (p l : Int32) : StM := setMa (m_beat T p l) 11 (upd (mar T 11) (3 * p + mar T 9 p.toNatClampNeg).toNatClampNeg (fondNext (T.1 2) (m_fondOf T p) (mar (m_beat T p l) 5 (mar T 9 p.toNatClampNeg).toNatClampNeg)))
def m_taught (T : StM) (p l b : Int32) : StM := if b = 0 then m_fail T p l else setMa T 10 (upd (mar T 10) p.toNatClampNeg (mar T 10 p.toNatClampNeg ||| ((1 : Int32) <<< (l &&& 31))))
def m_teachS (T : StM) (p l b : Int32) : Int32 × StM := (mar (m_taught T p l b) 5 (mar T 9 p.toNatClampNeg).toNatClampNeg, m_taught T p l b)
def m_teach (T : StM) (p l b : Int32) : Int32 × StM := if m_isPrince T p = 0 then (-101, T) else if m_isLesson T l = 0 then (-101, T) else if jhas (mar T 10 p.toNatClampNeg) l = 0 then (if b = 0 then (if m_tenthsNow T p l = 10 then (-103, T) else m_teachS T p l b) else (if m_tenthsNow T p l = 0 then (-103, T) else m_teachS T p l b)) else (-103, T)
theorem R33 : Rg 3 3 := ⟨rfl, Nat.le_refl _⟩

set_option maxHeartbeats 4000000 in
theorem cM_learntBy {G : Gx} (B : Base G) (a : Nat → Nat) (T : StM) (l : Int32) (hI : IM T) : Ci G yX1_learntBy cX1_learntBy 4 .int (rmD 1) (wM G a) T [.ref (a 0), .int l] (fun r S' => r = m_learntBy T l ∧ S' = T) := by
  refine Ci.of B [some (.ref (a 0)), some (.int l), none, none] (by decide) rfl (Nat.le_of_ble_eq_true rfl) (fun E C hR => ?_)
  have C : CxOk E RX1 cX1_learntBy 4 G (rmD 1) := C
  refine r_iconst (pc := 0) (0) C dX1_learntBy_0 (by decide) ?_
  refine r_istore_n (pc := 1) C dX1_learntBy_1 (by decide) ?_
  refine r_iconst (pc := 2) (0) C dX1_learntBy_2 (by decide) ?_
  refine r_istore_n (pc := 3) C dX1_learntBy_3 (by decide) ?_
  refine V_for (P := fun i bits => V E 4 0 0 (wM G a T) 4 [some (.ref (a 0)), some (.int l), some (.int bits), some (.int (nI i))] []) (m_who T l) 0 (T.1 6).toNatClampNeg (fun i hi K4 => ?_) ?_
  · have hi3 : i < 3 := Nat.lt_of_lt_of_le hi hI.many.2
    refine r_iload_n (pc := 4) C dX1_learntBy_4 rfl ?_
    refine r_aload_n (pc := 5) C dX1_learntBy_5 rfl ?_
    refine M_g6 (pc := 6) C dX1_learntBy_6 ?_
    refine r_icmp_ge (pc := 9) 41 C dX1_learntBy_9 (by decide) (fun c9 => ?_) (fun c9 => ?_)
    · exact absurd c9 (lp_in hI.many (by decide) hi)
    · refine r_iload_n (pc := 12) C dX1_learntBy_12 rfl ?_
      refine r_aload_n (pc := 13) C dX1_learntBy_13 rfl ?_
      refine M_g10 (pc := 14) C dX1_learntBy_14 ?_
      refine r_iload_n (pc := 17) C dX1_learntBy_17 rfl ?_
      refine M_l10 (pc := 18) C dX1_learntBy_18 (vp_in_nI hi3 (by decide)) ?_
      rw [nI_clamp (Nat.lt_trans hi3 (by decide))]
      refine r_iload_n (pc := 19) C dX1_learntBy_19 rfl ?_
      refine S_cQi (pc := 20) C (cM_has B _ _) q873 mX1_has rfl dX1_learntBy_20 (by decide) (Nat.le_of_ble_eq_true rfl) ?_
      refine r_if_eq (pc := 23) 32 C dX1_learntBy_23 (by decide) (fun c23 => ?_) (fun c23 => ?_)
      · refine r_iconst (pc := 32) (0) C dX1_learntBy_32 (by decide) ?_
        refine r_ior (pc := 33) C dX1_learntBy_33 ?_
        refine r_istore_n (pc := 34) C dX1_learntBy_34 (by decide) ?_
        refine r_iinc (pc := 35) _ C dX1_learntBy_35 rfl (nI_1 i) (by decide) ?_
        refine r_goto (pc := 38) 4 C dX1_learntBy_38 (by decide) ?_
        simp only [nf, m_who, c9, c23, ↓reduceIte] at K4
        exact K4
      · refine r_iconst (pc := 26) (1) C dX1_learntBy_26 (by decide) ?_
        refine r_iload_n (pc := 27) C dX1_learntBy_27 rfl ?_
        refine r_ishl (pc := 28) C dX1_learntBy_28 ?_
        refine r_goto (pc := 29) 33 C dX1_learntBy_29 (by decide) ?_
        refine r_ior (pc := 33) C dX1_learntBy_33 ?_
        refine r_istore_n (pc := 34) C dX1_learntBy_34 (by decide) ?_
        refine r_iinc (pc := 35) _ C dX1_learntBy_35 rfl (nI_1 i) (by decide) ?_
        refine r_goto (pc := 38) 4 C dX1_learntBy_38 (by decide) ?_
        simp only [nf, m_who, c9, c23, ↓reduceIte] at K4
        exact K4
  · refine r_iload_n (pc := 4) C dX1_learntBy_4 rfl ?_
    refine r_aload_n (pc := 5) C dX1_learntBy_5 rfl ?_
    refine M_g6 (pc := 6) C dX1_learntBy_6 ?_
    refine r_icmp_ge (pc := 9) 41 C dX1_learntBy_9 (by decide) (fun c9 => ?_) (fun c9 => ?_)
    · refine r_iload_n (pc := 41) C dX1_learntBy_41 rfl ?_
      exact r_iret (pc := 42) C hR dX1_learntBy_42 (by decide) (by decide) ⟨rfl, rfl⟩
    · exact absurd (lp_out hI.many (by decide)) c9

set_option maxHeartbeats 4000000 in
theorem cM_lessonNow {G : Gx} (B : Base G) (a : Nat → Nat) (T : StM) (l what : Int32) (hI : IM T) (hl : vp_in l 5) : Ci G yX1_lessonNow cX1_lessonNow 3 .int (rmD 2) (wM G a) T [.ref (a 0), .int l, .int what] (fun r S' => r = m_lessonNow T l what ∧ S' = T) := by
  refine Ci.of B [some (.ref (a 0)), some (.int l), some (.int what)] (by decide) rfl (Nat.le_of_ble_eq_true rfl) (fun E C hR => ?_)
  have C : CxOk E RX1 cX1_lessonNow 3 G (rmD 2) := C
  refine r_iload_n (pc := 0) C dX1_lessonNow_0 rfl ?_
  refine r_if_ne (pc := 1) 13 C dX1_lessonNow_1 (by decide) (fun c1 => ?_) (fun c1 => ?_)
  · refine r_iload_n (pc := 13) C dX1_lessonNow_13 rfl ?_
    refine r_iconst (pc := 14) (1) C dX1_lessonNow_14 (by decide) ?_
    refine r_icmp_ne (pc := 15) 27 C dX1_lessonNow_15 (by decide) (fun c15 => ?_) (fun c15 => ?_)
    · refine r_aload_n (pc := 27) C dX1_lessonNow_27 rfl ?_
      refine r_iload_n (pc := 28) C dX1_lessonNow_28 rfl ?_
      refine M_cQi (pc := 29) C (cM_learntBy B a _ _ hI) q869 mX1_learntBy rfl dX1_lessonNow_29 (by decide) (Nat.le_of_ble_eq_true rfl) ?_
      exact r_iret (pc := 32) C hR dX1_lessonNow_32 (by decide) (by decide) (by refine ⟨?_, ?_⟩ <;> (try simp only [m_lessonNow, c1, c15, ↓reduceIte]) <;> (try rfl))
    · refine r_aload_n (pc := 18) C dX1_lessonNow_18 rfl ?_
      refine M_g4 (pc := 19) C dX1_lessonNow_19 ?_
      refine r_iload_n (pc := 22) C dX1_lessonNow_22 rfl ?_
      refine M_l4 (pc := 23) C dX1_lessonNow_23 (by assumption) ?_
      refine r_goto (pc := 24) 32 C dX1_lessonNow_24 (by decide) ?_
      exact r_iret (pc := 32) C hR dX1_lessonNow_32 (by decide) (by decide) (by refine ⟨?_, ?_⟩ <;> (try simp only [m_lessonNow, c1, c15, ↓reduceIte]) <;> (try rfl))
  · refine r_aload_n (pc := 4) C dX1_lessonNow_4 rfl ?_
    refine M_g3 (pc := 5) C dX1_lessonNow_5 ?_
    refine r_iload_n (pc := 8) C dX1_lessonNow_8 rfl ?_
    refine M_l3 (pc := 9) C dX1_lessonNow_9 (by assumption) ?_
    refine r_goto (pc := 10) 32 C dX1_lessonNow_10 (by decide) ?_
    exact r_iret (pc := 32) C hR dX1_lessonNow_32 (by decide) (by decide) (by refine ⟨?_, ?_⟩ <;> (try simp only [m_lessonNow, c1, ↓reduceIte]) <;> (try rfl))

set_option maxHeartbeats 4000000 in
theorem cM_lesson {G : Gx} (B : Base G) (a : Nat → Nat) (T : StM) (l what : Int32) (hI : IM T) : Ci G yX1_lesson cX1_lesson 3 .int (rmD 3) (wM G a) T [.ref (a 0), .int l, .int what] (fun r S' => r = m_lesson T l what ∧ S' = T) := by
  refine Ci.of B [some (.ref (a 0)), some (.int l), some (.int what)] (by decide) rfl (Nat.le_of_ble_eq_true rfl) (fun E C hR => ?_)
  have C : CxOk E RX1 cX1_lesson 3 G (rmD 3) := C
  refine r_aload_n (pc := 0) C dX1_lesson_0 rfl ?_
  refine r_iload_n (pc := 1) C dX1_lesson_1 rfl ?_
  refine M_cQi (pc := 2) C (cM_isLesson B a _ _) q861 mX1_isLesson rfl dX1_lesson_2 (by decide) (Nat.le_of_ble_eq_true rfl) ?_
  refine r_if_ne (pc := 5) 13 C dX1_lesson_5 (by decide) (fun c5 => ?_) (fun c5 => ?_)
  · have hl := hI.ls c5
    refine r_iload_n (pc := 13) C dX1_lesson_13 rfl ?_
    refine r_iconst (pc := 14) (0) C dX1_lesson_14 (by decide) ?_
    refine r_iconst (pc := 15) (2) C dX1_lesson_15 (by decide) ?_
    refine S_cQi (pc := 16) C (cM_within B _ _ _) q826 mX1_within rfl dX1_lesson_16 (by decide) (Nat.le_of_ble_eq_true rfl) ?_
    refine r_if_eq (pc := 19) 31 C dX1_lesson_19 (by decide) (fun c19 => ?_) (fun c19 => ?_)
    · refine r_bipush (pc := 31) (-102) C dX1_lesson_31 (by decide) ?_
      exact r_iret (pc := 33) C hR dX1_lesson_33 (by decide) (by decide) (by refine ⟨?_, ?_⟩ <;> (try simp only [m_lesson, c5, c19, ↓reduceIte]) <;> (try rfl))
    · refine r_aload_n (pc := 22) C dX1_lesson_22 rfl ?_
      refine r_iload_n (pc := 23) C dX1_lesson_23 rfl ?_
      refine r_iload_n (pc := 24) C dX1_lesson_24 rfl ?_
      refine M_cQi (pc := 25) C (cM_lessonNow B a _ _ _ hI (by assumption)) q865 mX1_lessonNow rfl dX1_lesson_25 (by decide) (Nat.le_of_ble_eq_true rfl) ?_
      refine r_goto (pc := 28) 33 C dX1_lesson_28 (by decide) ?_
      exact r_iret (pc := 33) C hR dX1_lesson_33 (by decide) (by decide) (by refine ⟨?_, ?_⟩ <;> (try simp only [m_lesson, c5, c19, ↓reduceIte]) <;> (try rfl))
  · refine r_bipush (pc := 8) (-101) C dX1_lesson_8 (by decide) ?_
    refine r_goto (pc := 10) 33 C dX1_lesson_10 (by decide) ?_
    exact r_iret (pc := 33) C hR dX1_lesson_33 (by decide) (by decide) (by refine ⟨?_, ?_⟩ <;> (try simp only [m_lesson, c5, ↓reduceIte]) <;> (try rfl))

set_option maxHeartbeats 4000000 in
theorem cM_stripes {G : Gx} (B : Base G) (a : Nat → Nat) (T : StM) (b : Int32) : Ci G yX1_stripes cX1_stripes 2 .int (rmD 2) (wM G a) T [.ref (a 0), .int b] (fun r S' => r = m_stripes T b ∧ S' = T) := by
  refine Ci.of B [some (.ref (a 0)), some (.int b)] (by decide) rfl (Nat.le_of_ble_eq_true rfl) (fun E C hR => ?_)
  have C : CxOk E RX1 cX1_stripes 2 G (rmD 2) := C
  refine r_aload_n (pc := 0) C dX1_stripes_0 rfl ?_
  refine r_iload_n (pc := 1) C dX1_stripes_1 rfl ?_
  refine M_cQi (pc := 2) C (cM_isBoy B a _ _) q880 mX1_isBoy rfl dX1_stripes_2 (by decide) (Nat.le_of_ble_eq_true rfl) ?_
  refine r_if_eq (pc := 5) 17 C dX1_stripes_5 (by decide) (fun c5 => ?_) (fun c5 => ?_)
  · refine r_bipush (pc := 17) (-101) C dX1_stripes_17 (by decide) ?_
    exact r_iret (pc := 19) C hR dX1_stripes_19 (by decide) (by decide) (by refine ⟨?_, ?_⟩ <;> (try simp only [m_stripes, c5, ↓reduceIte]) <;> (try rfl))
  · refine r_aload_n (pc := 8) C dX1_stripes_8 rfl ?_
    refine M_g5 (pc := 9) C dX1_stripes_9 ?_
    refine r_iload_n (pc := 12) C dX1_stripes_12 rfl ?_
    refine M_l5 (pc := 13) C dX1_stripes_13 ((m_boy_in c5).in (by decide) (by decide)) ?_
    refine r_goto (pc := 14) 19 C dX1_stripes_14 (by decide) ?_
    exact r_iret (pc := 19) C hR dX1_stripes_19 (by decide) (by decide) (by refine ⟨?_, ?_⟩ <;> (try simp only [m_stripes, c5, ↓reduceIte]) <;> (try rfl))

set_option maxHeartbeats 4000000 in
theorem cM_prince {G : Gx} (B : Base G) (a : Nat → Nat) (T : StM) (k w : Int32) (hI : IM T) : Ci G yX1_prince cX1_prince 5 .int (rmD 1) (wM G a) T [.ref (a 0), .int k, .int w] (fun r S' => r = (m_prince T k w).1 ∧ S' = (m_prince T k w).2) := by
  refine Ci.of B [some (.ref (a 0)), some (.int k), some (.int w), none, none] (by decide) rfl (Nat.le_of_ble_eq_true rfl) (fun E C hR => ?_)
  have C : CxOk E RX1 cX1_prince 5 G (rmD 1) := C
  refine r_iload_n (pc := 0) C dX1_prince_0 rfl ?_
  refine r_iconst (pc := 1) (0) C dX1_prince_1 (by decide) ?_
  refine r_iconst (pc := 2) (4) C dX1_prince_2 (by decide) ?_
  refine S_cQi (pc := 3) C (cM_within B _ _ _) q826 mX1_within rfl dX1_prince_3 (by decide) (Nat.le_of_ble_eq_true rfl) ?_
  refine r_if_eq (pc := 6) 19 C dX1_prince_6 (by decide) (fun c6 => ?_) (fun c6 => ?_)
  · refine r_bipush (pc := 19) (-102) C dX1_prince_19 (by decide) ?_
    exact r_iret (pc := 21) C hR dX1_prince_21 (by decide) (by decide) (by refine ⟨?_, ?_⟩ <;> (try simp only [m_prince, c6, ↓reduceIte]) <;> (try rfl))
  · refine r_iload_n (pc := 9) C dX1_prince_9 rfl ?_
    refine r_iconst (pc := 10) (0) C dX1_prince_10 (by decide) ?_
    refine r_bipush (pc := 11) (9) C dX1_prince_11 (by decide) ?_
    refine S_cQi (pc := 13) C (cM_within B _ _ _) q826 mX1_within rfl dX1_prince_13 (by decide) (Nat.le_of_ble_eq_true rfl) ?_
    refine r_if_ne (pc := 16) 22 C dX1_prince_16 (by decide) (fun c16 => ?_) (fun c16 => ?_)
    · refine r_aload_n (pc := 22) C dX1_prince_22 rfl ?_
      refine M_g1 (pc := 23) C dX1_prince_23 ?_
      refine r_if_ne (pc := 26) 32 C dX1_prince_26 (by decide) (fun c26 => ?_) (fun c26 => ?_)
      · refine r_aload_n (pc := 32) C dX1_prince_32 rfl ?_
        refine M_g6 (pc := 33) C dX1_prince_33 ?_
        refine r_iconst (pc := 36) (3) C dX1_prince_36 (by decide) ?_
        refine r_icmp_ne (pc := 37) 43 C dX1_prince_37 (by decide) (fun c37 => ?_) (fun c37 => ?_)
        · refine r_aload_n (pc := 43) C dX1_prince_43 rfl ?_
          refine M_g6 (pc := 44) C dX1_prince_44 ?_
          refine r_istore_n (pc := 47) C dX1_prince_47 (by decide) ?_
          refine r_aload_n (pc := 48) C dX1_prince_48 rfl ?_
          refine M_g7 (pc := 49) C dX1_prince_49 ?_
          refine r_iload_n (pc := 52) C dX1_prince_52 rfl ?_
          refine r_iload_n (pc := 53) C dX1_prince_53 rfl ?_
          refine M_s7 (pc := 54) C dX1_prince_54 (hI.many.in_ne (by decide) c37) ?_
          refine r_aload_n (pc := 55) C dX1_prince_55 rfl ?_
          refine M_g8 (pc := 56) C dX1_prince_56 ?_
          refine r_iload_n (pc := 59) C dX1_prince_59 rfl ?_
          refine r_iload_n (pc := 60) C dX1_prince_60 rfl ?_
          refine M_s8 (pc := 61) C dX1_prince_61 (hI.many.in_ne (by decide) c37) ?_
          refine r_aload_n (pc := 62) C dX1_prince_62 rfl ?_
          refine M_g9 (pc := 63) C dX1_prince_63 ?_
          refine r_iload_n (pc := 66) C dX1_prince_66 rfl ?_
          refine r_iload_n (pc := 67) C dX1_prince_67 rfl ?_
          refine M_s9 (pc := 68) C dX1_prince_68 (hI.many.in_ne (by decide) c37) ?_
          refine r_aload_n (pc := 69) C dX1_prince_69 rfl ?_
          refine M_g10 (pc := 70) C dX1_prince_70 ?_
          refine r_iload_n (pc := 73) C dX1_prince_73 rfl ?_
          refine r_iconst (pc := 74) (0) C dX1_prince_74 (by decide) ?_
          refine M_s10 (pc := 75) C dX1_prince_75 (hI.many.in_ne (by decide) c37) ?_
          refine r_iconst (pc := 76) (0) C dX1_prince_76 (by decide) ?_
          refine r_istore (pc := 77) C dX1_prince_77 (by decide) ?_
          refine V_for (P := fun i Z => V E 5 0 0 (wM G a Z) 79 [some (.ref (a 0)), some (.int k), some (.int w), some (.int (T.1 6)), some (.int (nI i))] []) (m_prf (T.1 6)) (m_prS T k w) 3 (fun i hi K79 => ?_) ?_
          · have hb2 : Rg (nI i) 2 := Rg.of (Nat.le_of_lt_succ hi) (by decide)
            refine r_iload (pc := 79) C dX1_prince_79 rfl ?_
            refine r_iconst (pc := 81) (3) C dX1_prince_81 (by decide) ?_
            refine r_icmp_ge (pc := 82) 103 C dX1_prince_82 (by decide) (fun c82 => ?_) (fun c82 => ?_)
            · exact absurd c82 (lp_in R33 (by decide) hi)
            · refine r_aload_n (pc := 85) C dX1_prince_85 rfl ?_
              refine M_g11 (pc := 86) C dX1_prince_86 ?_
              refine r_iconst (pc := 89) (3) C dX1_prince_89 (by decide) ?_
              refine r_iload_n (pc := 90) C dX1_prince_90 rfl ?_
              refine r_imul (pc := 91) C dX1_prince_91 ?_
              refine r_iload (pc := 92) C dX1_prince_92 rfl ?_
              refine r_iadd (pc := 94) C dX1_prince_94 ?_
              refine r_iconst (pc := 95) (5) C dX1_prince_95 (by decide) ?_
              refine M_s11 (pc := 96) C dX1_prince_96 (vin9p (hI.many.in_ne (by decide) c37) hb2) ?_
              refine r_iinc (pc := 97) _ C dX1_prince_97 rfl (nI_1 i) (by decide) ?_
              refine r_goto (pc := 100) 79 C dX1_prince_100 (by decide) ?_
              exact K79
          · refine r_iload (pc := 79) C dX1_prince_79 rfl ?_
            refine r_iconst (pc := 81) (3) C dX1_prince_81 (by decide) ?_
            refine r_icmp_ge (pc := 82) 103 C dX1_prince_82 (by decide) (fun c82 => ?_) (fun c82 => ?_)
            · refine r_aload_n (pc := 103) C dX1_prince_103 rfl ?_
              refine r_dup (pc := 104) C dX1_prince_104 rfl ?_
              refine M_g6 (pc := 105) C dX1_prince_105 ?_
              refine r_iconst (pc := 108) (1) C dX1_prince_108 (by decide) ?_
              refine r_iadd (pc := 109) C dX1_prince_109 ?_
              refine M_p6 (pc := 110) C dX1_prince_110 ?_
              refine r_iload_n (pc := 113) C dX1_prince_113 rfl ?_
              exact r_iret (pc := 114) C hR dX1_prince_114 (by decide) (by decide) (by refine ⟨?_, ?_⟩ <;> (try simp only [m_prince, c6, c16, c26, c37, c82, ↓reduceIte]) <;> (try rfl))
            · exact absurd (lp_out R33 (by decide)) c82
        · refine r_bipush (pc := 40) (-104) C dX1_prince_40 (by decide) ?_
          exact r_iret (pc := 42) C hR dX1_prince_42 (by decide) (by decide) (by refine ⟨?_, ?_⟩ <;> (try simp only [m_prince, c6, c16, c26, c37, ↓reduceIte]) <;> (try rfl))
      · refine r_bipush (pc := 29) (-103) C dX1_prince_29 (by decide) ?_
        exact r_iret (pc := 31) C hR dX1_prince_31 (by decide) (by decide) (by refine ⟨?_, ?_⟩ <;> (try simp only [m_prince, c6, c16, c26, ↓reduceIte]) <;> (try rfl))
    · refine r_bipush (pc := 19) (-102) C dX1_prince_19 (by decide) ?_
      exact r_iret (pc := 21) C hR dX1_prince_21 (by decide) (by decide) (by refine ⟨?_, ?_⟩ <;> (try simp only [m_prince, c6, c16, ↓reduceIte]) <;> (try rfl))

theorem Rg_no {w : Int32} (h : w.toInt < 0 ∨ 4 < w.toInt) : ¬ Rg w 4 := by
  intro g
  have g2 := g.2
  have e : w.toInt = w.toNatClampNeg := by
    have h1 := congrArg Int32.toInt g.1
    rw [nI_toInt (by omega)] at h1
    exact h1
  omega
theorem cl0 : (0 : Int32).toNatClampNeg = 0 := rfl
theorem cl1 : (1 : Int32).toNatClampNeg = 1 := rfl
theorem cl2 : (2 : Int32).toNatClampNeg = 2 := rfl
theorem cl3 : (3 : Int32).toNatClampNeg = 3 := rfl
theorem cl4 : (4 : Int32).toNatClampNeg = 4 := rfl
set_option maxHeartbeats 4000000 in
theorem cM_feels {G : Gx} (B : Base G) (kd f : Int32) (hk : Rg kd 4) : Ci G yX1_feels cX1_feels 3 .int (rmD 0) (fun _ : Unit => []) () [.int kd, .int f] (fun r _ => r = feels kd.toNatClampNeg f) := by
  refine Ci.of B [some (.int kd), some (.int f), none] (by decide) rfl (Nat.le_of_ble_eq_true rfl) (fun E C hR => ?_)
  have C : CxOk E RX1 cX1_feels 3 G (rmD 0) := C
  refine r_iload_n (pc := 0) C dX1_feels_0 rfl ?_
  refine r_iconst (pc := 1) (5) C dX1_feels_1 (by decide) ?_
  refine r_icmp_ge (pc := 2) 9 C dX1_feels_2 (by decide) (fun c2 => ?_) (fun c2 => ?_)
  · have c2 : ¬ f < 5 := Int32.not_lt.mpr c2
    refine r_iload_n (pc := 9) C dX1_feels_9 rfl ?_
    refine r_istore_n (pc := 10) C dX1_feels_10 (by decide) ?_
    refine r_iload_n (pc := 11) C dX1_feels_11 rfl ?_
    rcases sw5 kd with rfl | rfl | rfl | rfl | rfl | hw
    · refine r_tblOut (pc := 12) 59 C dX1_feels_12 (by decide) (by decide) ?_
      refine r_iload_n (pc := 59) C dX1_feels_59 rfl ?_
      exact r_iret (pc := 60) (S := ()) C hR dX1_feels_60 (by decide) (by decide) (by simp only [cl0, cl1, cl2, cl3, cl4, feels, c2, ↓reduceIte])
    · refine r_tblIn (pc := 12) (off := 32) 44 C dX1_feels_12 (by decide) (by decide) rfl (by decide) ?_
      refine r_iload_n (pc := 44) C dX1_feels_44 rfl ?_
      exact r_iret (pc := 45) (S := ()) C hR dX1_feels_45 (by decide) (by decide) (by simp only [cl0, cl1, cl2, cl3, cl4, feels, c2, ↓reduceIte])
    · refine r_tblIn (pc := 12) (off := 34) 46 C dX1_feels_12 (by decide) (by decide) rfl (by decide) ?_
      refine r_bipush (pc := 46) (9) C dX1_feels_46 (by decide) ?_
      refine r_iload_n (pc := 48) C dX1_feels_48 rfl ?_
      refine r_isub (pc := 49) C dX1_feels_49 ?_
      exact r_iret (pc := 50) (S := ()) C hR dX1_feels_50 (by decide) (by decide) (by simp only [cl0, cl1, cl2, cl3, cl4, feels, c2, ↓reduceIte])
    · refine r_tblIn (pc := 12) (off := 39) 51 C dX1_feels_12 (by decide) (by decide) rfl (by decide) ?_
      refine r_iload_n (pc := 51) C dX1_feels_51 rfl ?_
      refine r_iconst (pc := 52) (2) C dX1_feels_52 (by decide) ?_
      refine r_idiv (pc := 53) C dX1_feels_53 (by decide) ?_
      exact r_iret (pc := 54) (S := ()) C hR dX1_feels_54 (by decide) (by decide) (by simp only [cl0, cl1, cl2, cl3, cl4, feels, c2, ↓reduceIte])
    · refine r_tblIn (pc := 12) (off := 43) 55 C dX1_feels_12 (by decide) (by decide) rfl (by decide) ?_
      refine r_iload_n (pc := 55) C dX1_feels_55 rfl ?_
      refine r_iconst (pc := 56) (2) C dX1_feels_56 (by decide) ?_
      refine r_iadd (pc := 57) C dX1_feels_57 ?_
      exact r_iret (pc := 58) (S := ()) C hR dX1_feels_58 (by decide) (by decide) (by simp only [cl0, cl1, cl2, cl3, cl4, feels, c2, ↓reduceIte])
    · exact absurd hk (Rg_no hw.1)
  · have c2 : f < 5 := Int32.not_le.mp c2
    refine r_iconst (pc := 5) (0) C dX1_feels_5 (by decide) ?_
    refine r_goto (pc := 6) 10 C dX1_feels_6 (by decide) ?_
    refine r_istore_n (pc := 10) C dX1_feels_10 (by decide) ?_
    refine r_iload_n (pc := 11) C dX1_feels_11 rfl ?_
    rcases sw5 kd with rfl | rfl | rfl | rfl | rfl | hw
    · refine r_tblOut (pc := 12) 59 C dX1_feels_12 (by decide) (by decide) ?_
      refine r_iload_n (pc := 59) C dX1_feels_59 rfl ?_
      exact r_iret (pc := 60) (S := ()) C hR dX1_feels_60 (by decide) (by decide) (by simp only [cl0, cl1, cl2, cl3, cl4, feels, c2, ↓reduceIte])
    · refine r_tblIn (pc := 12) (off := 32) 44 C dX1_feels_12 (by decide) (by decide) rfl (by decide) ?_
      refine r_iload_n (pc := 44) C dX1_feels_44 rfl ?_
      exact r_iret (pc := 45) (S := ()) C hR dX1_feels_45 (by decide) (by decide) (by simp only [cl0, cl1, cl2, cl3, cl4, feels, c2, ↓reduceIte])
    · refine r_tblIn (pc := 12) (off := 34) 46 C dX1_feels_12 (by decide) (by decide) rfl (by decide) ?_
      refine r_bipush (pc := 46) (9) C dX1_feels_46 (by decide) ?_
      refine r_iload_n (pc := 48) C dX1_feels_48 rfl ?_
      refine r_isub (pc := 49) C dX1_feels_49 ?_
      exact r_iret (pc := 50) (S := ()) C hR dX1_feels_50 (by decide) (by decide) (by simp only [cl0, cl1, cl2, cl3, cl4, feels, c2, ↓reduceIte])
    · refine r_tblIn (pc := 12) (off := 39) 51 C dX1_feels_12 (by decide) (by decide) rfl (by decide) ?_
      refine r_iload_n (pc := 51) C dX1_feels_51 rfl ?_
      refine r_iconst (pc := 52) (2) C dX1_feels_52 (by decide) ?_
      refine r_idiv (pc := 53) C dX1_feels_53 (by decide) ?_
      exact r_iret (pc := 54) (S := ()) C hR dX1_feels_54 (by decide) (by decide) (by simp only [cl0, cl1, cl2, cl3, cl4, feels, c2, ↓reduceIte])
    · refine r_tblIn (pc := 12) (off := 43) 55 C dX1_feels_12 (by decide) (by decide) rfl (by decide) ?_
      refine r_iload_n (pc := 55) C dX1_feels_55 rfl ?_
      refine r_iconst (pc := 56) (2) C dX1_feels_56 (by decide) ?_
      refine r_iadd (pc := 57) C dX1_feels_57 ?_
      exact r_iret (pc := 58) (S := ()) C hR dX1_feels_58 (by decide) (by decide) (by simp only [cl0, cl1, cl2, cl3, cl4, feels, c2, ↓reduceIte])
    · exact absurd hk (Rg_no hw.1)

set_option maxHeartbeats 4000000 in
theorem cM_feelsNow {G : Gx} (B : Base G) (a : Nat → Nat) (T : StM) (p : Int32) (hI : IM T) (hp : vp_in p 3) : Ci G yX1_feelsNow cX1_feelsNow 2 .int (rmD 1) (wM G a) T [.ref (a 0), .int p] (fun r S' => r = m_feelsNow T p ∧ S' = T) := by
  refine Ci.of B [some (.ref (a 0)), some (.int p)] (by decide) rfl (Nat.le_of_ble_eq_true rfl) (fun E C hR => ?_)
  have C : CxOk E RX1 cX1_feelsNow 2 G (rmD 1) := C
  refine r_aload_n (pc := 0) C dX1_feelsNow_0 rfl ?_
  refine M_g7 (pc := 1) C dX1_feelsNow_1 ?_
  refine r_iload_n (pc := 4) C dX1_feelsNow_4 rfl ?_
  refine M_l7 (pc := 5) C dX1_feelsNow_5 (by assumption) ?_
  refine r_aload_n (pc := 6) C dX1_feelsNow_6 rfl ?_
  refine M_g11 (pc := 7) C dX1_feelsNow_7 ?_
  refine r_iconst (pc := 10) (3) C dX1_feelsNow_10 (by decide) ?_
  refine r_iload_n (pc := 11) C dX1_feelsNow_11 rfl ?_
  refine r_imul (pc := 12) C dX1_feelsNow_12 ?_
  refine r_aload_n (pc := 13) C dX1_feelsNow_13 rfl ?_
  refine M_g9 (pc := 14) C dX1_feelsNow_14 ?_
  refine r_iload_n (pc := 17) C dX1_feelsNow_17 rfl ?_
  refine M_l9 (pc := 18) C dX1_feelsNow_18 (by assumption) ?_
  refine r_iadd (pc := 19) C dX1_feelsNow_19 ?_
  refine M_l11 (pc := 20) C dX1_feelsNow_20 (vin9p hp (hI.boy hp)) ?_
  refine S_cQi (pc := 21) C (cM_feels B _ _ (by first | assumption | exact hI.kd (by assumption))) q904 mX1_feels rfl dX1_feelsNow_21 (by decide) (Nat.le_of_ble_eq_true rfl) ?_
  exact r_iret (pc := 24) C hR dX1_feelsNow_24 (by decide) (by decide) ⟨rfl, rfl⟩

set_option maxHeartbeats 4000000 in
theorem cM_tenthsBy {G : Gx} (B : Base G) (a : Nat → Nat) (T : StM) (p l f : Int32) (hI : IM T) (hp : vp_in p 3) (hl : vp_in l 5) : Ci G yX1_tenthsBy cX1_tenthsBy 5 .int (rmD 1) (wM G a) T [.ref (a 0), .int p, .int l, .int f] (fun r S' => r = m_tenthsBy T p l f ∧ S' = T) := by
  refine Ci.of B [some (.ref (a 0)), some (.int p), some (.int l), some (.int f), none] (by decide) rfl (Nat.le_of_ble_eq_true rfl) (fun E C hR => ?_)
  have C : CxOk E RX1 cX1_tenthsBy 5 G (rmD 1) := C
  refine r_aload_n (pc := 0) C dX1_tenthsBy_0 rfl ?_
  refine M_g8 (pc := 1) C dX1_tenthsBy_1 ?_
  refine r_iload_n (pc := 4) C dX1_tenthsBy_4 rfl ?_
  refine M_l8 (pc := 5) C dX1_tenthsBy_5 (by assumption) ?_
  refine r_aload_n (pc := 6) C dX1_tenthsBy_6 rfl ?_
  refine M_g7 (pc := 7) C dX1_tenthsBy_7 ?_
  refine r_iload_n (pc := 10) C dX1_tenthsBy_10 rfl ?_
  refine M_l7 (pc := 11) C dX1_tenthsBy_11 (by assumption) ?_
  refine r_iload_n (pc := 12) C dX1_tenthsBy_12 rfl ?_
  refine S_cQi (pc := 13) C (cM_feels B _ _ (by first | assumption | exact hI.kd (by assumption))) q904 mX1_feels rfl dX1_tenthsBy_13 (by decide) (Nat.le_of_ble_eq_true rfl) ?_
  refine r_iadd (pc := 16) C dX1_tenthsBy_16 ?_
  refine r_aload_n (pc := 17) C dX1_tenthsBy_17 rfl ?_
  refine M_g3 (pc := 18) C dX1_tenthsBy_18 ?_
  refine r_iload_n (pc := 21) C dX1_tenthsBy_21 rfl ?_
  refine M_l3 (pc := 22) C dX1_tenthsBy_22 (by assumption) ?_
  refine r_isub (pc := 23) C dX1_tenthsBy_23 ?_
  refine r_istore (pc := 24) C dX1_tenthsBy_24 (by decide) ?_
  refine r_iload (pc := 26) C dX1_tenthsBy_26 rfl ?_
  refine r_if_ge (pc := 28) 35 C dX1_tenthsBy_28 (by decide) (fun c28 => ?_) (fun c28 => ?_)
  · refine r_iload (pc := 35) C dX1_tenthsBy_35 rfl ?_
    refine r_bipush (pc := 37) (10) C dX1_tenthsBy_37 (by decide) ?_
    refine r_icmp_le (pc := 39) 47 C dX1_tenthsBy_39 (by decide) (fun c39 => ?_) (fun c39 => ?_)
    · refine r_iload (pc := 47) C dX1_tenthsBy_47 rfl ?_
      exact r_iret (pc := 49) C hR dX1_tenthsBy_49 (by decide) (by decide) ⟨(by first | exact (clampTo_lo (by decide) c28).symm | exact (clampTo_mid c28 c39).symm | exact (clampTo_hi (by decide) c39).symm), rfl⟩
    · refine r_bipush (pc := 42) (10) C dX1_tenthsBy_42 (by decide) ?_
      refine r_goto (pc := 44) 49 C dX1_tenthsBy_44 (by decide) ?_
      exact r_iret (pc := 49) C hR dX1_tenthsBy_49 (by decide) (by decide) ⟨(by first | exact (clampTo_lo (by decide) c28).symm | exact (clampTo_mid c28 c39).symm | exact (clampTo_hi (by decide) c39).symm), rfl⟩
  · refine r_iconst (pc := 31) (0) C dX1_tenthsBy_31 (by decide) ?_
    refine r_goto (pc := 32) 49 C dX1_tenthsBy_32 (by decide) ?_
    exact r_iret (pc := 49) C hR dX1_tenthsBy_49 (by decide) (by decide) ⟨(by first | exact (clampTo_lo (by decide) c28).symm | exact (clampTo_mid c28 c39).symm | exact (clampTo_hi (by decide) c39).symm), rfl⟩

set_option maxHeartbeats 4000000 in
theorem cM_tenthsNow {G : Gx} (B : Base G) (a : Nat → Nat) (T : StM) (p l : Int32) (hI : IM T) (hp : vp_in p 3) (hl : vp_in l 5) : Ci G yX1_tenthsNow cX1_tenthsNow 3 .int (rmD 2) (wM G a) T [.ref (a 0), .int p, .int l] (fun r S' => r = m_tenthsNow T p l ∧ S' = T) := by
  refine Ci.of B [some (.ref (a 0)), some (.int p), some (.int l)] (by decide) rfl (Nat.le_of_ble_eq_true rfl) (fun E C hR => ?_)
  have C : CxOk E RX1 cX1_tenthsNow 3 G (rmD 2) := C
  refine r_aload_n (pc := 0) C dX1_tenthsNow_0 rfl ?_
  refine r_iload_n (pc := 1) C dX1_tenthsNow_1 rfl ?_
  refine r_iload_n (pc := 2) C dX1_tenthsNow_2 rfl ?_
  refine r_aload_n (pc := 3) C dX1_tenthsNow_3 rfl ?_
  refine M_g11 (pc := 4) C dX1_tenthsNow_4 ?_
  refine r_iconst (pc := 7) (3) C dX1_tenthsNow_7 (by decide) ?_
  refine r_iload_n (pc := 8) C dX1_tenthsNow_8 rfl ?_
  refine r_imul (pc := 9) C dX1_tenthsNow_9 ?_
  refine r_aload_n (pc := 10) C dX1_tenthsNow_10 rfl ?_
  refine M_g9 (pc := 11) C dX1_tenthsNow_11 ?_
  refine r_iload_n (pc := 14) C dX1_tenthsNow_14 rfl ?_
  refine M_l9 (pc := 15) C dX1_tenthsNow_15 (by assumption) ?_
  refine r_iadd (pc := 16) C dX1_tenthsNow_16 ?_
  refine M_l11 (pc := 17) C dX1_tenthsNow_17 (vin9p hp (hI.boy hp)) ?_
  refine M_cQi (pc := 18) C (cM_tenthsBy B a _ _ _ _ (by assumption) (by assumption) (by assumption)) q927 mX1_tenthsBy rfl dX1_tenthsNow_18 (by decide) (Nat.le_of_ble_eq_true rfl) ?_
  exact r_iret (pc := 21) C hR dX1_tenthsNow_21 (by decide) (by decide) ⟨rfl, rfl⟩

theorem jin04 {w : Int32} (h : ¬ jin w 0 4 = 0) (hn : ¬ w = 0 ∧ ¬ w = 1 ∧ ¬ w = 2 ∧ ¬ w = 3 ∧ ¬ w = 4) : False := by
  obtain ⟨h1, h2⟩ := jin_ne0.mp h
  obtain ⟨j, hj, rfl⟩ := nI_of2 (M := 4) (n := 4) rfl (Int32.not_lt.mpr h1) h2
  obtain ⟨a0, a1, a2, a3, a4⟩ := hn
  rcases j with _ | _ | _ | _ | _ | j
  · exact a0 rfl
  · exact a1 rfl
  · exact a2 rfl
  · exact a3 rfl
  · exact a4 rfl
  · omega
set_option maxHeartbeats 4000000 in
theorem cM_princeNow {G : Gx} (B : Base G) (a : Nat → Nat) (T : StM) (p w : Int32) (hI : IM T) (hp : vp_in p 3) (hw0 : ¬ jin w 0 4 = 0 ∨ ¬ jin w 10 12 = 0) : Ci G yX1_princeNow cX1_princeNow 3 .int (rmD 2) (wM G a) T [.ref (a 0), .int p, .int w] (fun r S' => r = m_princeNow T p w ∧ S' = T) := by
  refine Ci.of B [some (.ref (a 0)), some (.int p), some (.int w)] (by decide) rfl (Nat.le_of_ble_eq_true rfl) (fun E C hR => ?_)
  have C : CxOk E RX1 cX1_princeNow 3 G (rmD 2) := C
  refine r_iload_n (pc := 0) C dX1_princeNow_0 rfl ?_
  rcases sw5 w with rfl | rfl | rfl | rfl | rfl | hw
  · refine r_tblIn (pc := 1) (off := 35) 36 C dX1_princeNow_1 (by decide) (by decide) rfl (by decide) ?_
    refine r_aload_n (pc := 36) C dX1_princeNow_36 rfl ?_
    refine M_g7 (pc := 37) C dX1_princeNow_37 ?_
    refine r_iload_n (pc := 40) C dX1_princeNow_40 rfl ?_
    refine M_l7 (pc := 41) C dX1_princeNow_41 (by assumption) ?_
    exact r_iret (pc := 42) C hR dX1_princeNow_42 (by decide) (by decide) ⟨by simp only [m_princeNow, ↓reduceIte] <;> rfl, rfl⟩
  · refine r_tblIn (pc := 1) (off := 42) 43 C dX1_princeNow_1 (by decide) (by decide) rfl (by decide) ?_
    refine r_aload_n (pc := 43) C dX1_princeNow_43 rfl ?_
    refine M_g8 (pc := 44) C dX1_princeNow_44 ?_
    refine r_iload_n (pc := 47) C dX1_princeNow_47 rfl ?_
    refine M_l8 (pc := 48) C dX1_princeNow_48 (by assumption) ?_
    exact r_iret (pc := 49) C hR dX1_princeNow_49 (by decide) (by decide) ⟨by simp only [m_princeNow, ↓reduceIte] <;> rfl, rfl⟩
  · refine r_tblIn (pc := 1) (off := 49) 50 C dX1_princeNow_1 (by decide) (by decide) rfl (by decide) ?_
    refine r_aload_n (pc := 50) C dX1_princeNow_50 rfl ?_
    refine M_g9 (pc := 51) C dX1_princeNow_51 ?_
    refine r_iload_n (pc := 54) C dX1_princeNow_54 rfl ?_
    refine M_l9 (pc := 55) C dX1_princeNow_55 (by assumption) ?_
    exact r_iret (pc := 56) C hR dX1_princeNow_56 (by decide) (by decide) ⟨by simp only [m_princeNow, ↓reduceIte] <;> rfl, rfl⟩
  · refine r_tblIn (pc := 1) (off := 56) 57 C dX1_princeNow_1 (by decide) (by decide) rfl (by decide) ?_
    refine r_aload_n (pc := 57) C dX1_princeNow_57 rfl ?_
    refine r_iload_n (pc := 58) C dX1_princeNow_58 rfl ?_
    refine M_cQi (pc := 59) C (cM_feelsNow B a _ _ (by assumption) (by assumption)) q900 mX1_feelsNow rfl dX1_princeNow_59 (by decide) (Nat.le_of_ble_eq_true rfl) ?_
    exact r_iret (pc := 62) C hR dX1_princeNow_62 (by decide) (by decide) ⟨by simp only [m_princeNow, ↓reduceIte] <;> rfl, rfl⟩
  · refine r_tblIn (pc := 1) (off := 62) 63 C dX1_princeNow_1 (by decide) (by decide) rfl (by decide) ?_
    refine r_aload_n (pc := 63) C dX1_princeNow_63 rfl ?_
    refine M_g10 (pc := 64) C dX1_princeNow_64 ?_
    refine r_iload_n (pc := 67) C dX1_princeNow_67 rfl ?_
    refine M_l10 (pc := 68) C dX1_princeNow_68 (by assumption) ?_
    exact r_iret (pc := 69) C hR dX1_princeNow_69 (by decide) (by decide) ⟨by simp only [m_princeNow, ↓reduceIte] <;> rfl, rfl⟩
  · refine r_tblOut (pc := 1) 70 C dX1_princeNow_1 hw.1 (by decide) ?_
    refine r_aload_n (pc := 70) C dX1_princeNow_70 rfl ?_
    refine M_g11 (pc := 71) C dX1_princeNow_71 ?_
    refine r_iconst (pc := 74) (3) C dX1_princeNow_74 (by decide) ?_
    refine r_iload_n (pc := 75) C dX1_princeNow_75 rfl ?_
    refine r_imul (pc := 76) C dX1_princeNow_76 ?_
    refine r_iload_n (pc := 77) C dX1_princeNow_77 rfl ?_
    refine r_iadd (pc := 78) C dX1_princeNow_78 ?_
    refine r_bipush (pc := 79) (10) C dX1_princeNow_79 (by decide) ?_
    refine r_isub (pc := 81) C dX1_princeNow_81 ?_
    refine M_l11 (pc := 82) C dX1_princeNow_82 (by rw [(vp_lt hp (by decide)).2]; exact vin912 (vp_lt hp (by decide)).1 (hw0.resolve_left (fun h => jin04 h hw.2))) ?_
    exact r_iret (pc := 83) C hR dX1_princeNow_83 (by decide) (by decide) (by refine ⟨?_, ?_⟩ <;> (try simp only [m_princeNow, hw, ↓reduceIte]) <;> (try rfl))

set_option maxHeartbeats 4000000 in
theorem cM_about {G : Gx} (B : Base G) (a : Nat → Nat) (T : StM) (p w : Int32) (hI : IM T) : Ci G yX1_about cX1_about 3 .int (rmD 3) (wM G a) T [.ref (a 0), .int p, .int w] (fun r S' => r = m_about T p w ∧ S' = T) := by
  refine Ci.of B [some (.ref (a 0)), some (.int p), some (.int w)] (by decide) rfl (Nat.le_of_ble_eq_true rfl) (fun E C hR => ?_)
  have C : CxOk E RX1 cX1_about 3 G (rmD 3) := C
  refine r_aload_n (pc := 0) C dX1_about_0 rfl ?_
  refine r_iload_n (pc := 1) C dX1_about_1 rfl ?_
  refine M_cQi (pc := 2) C (cM_isPrince B a _ _) q892 mX1_isPrince rfl dX1_about_2 (by decide) (Nat.le_of_ble_eq_true rfl) ?_
  refine r_if_ne (pc := 5) 13 C dX1_about_5 (by decide) (fun c5 => ?_) (fun c5 => ?_)
  · have hp := hI.pr c5
    refine r_iload_n (pc := 13) C dX1_about_13 rfl ?_
    refine r_iconst (pc := 14) (0) C dX1_about_14 (by decide) ?_
    refine r_iconst (pc := 15) (4) C dX1_about_15 (by decide) ?_
    refine S_cQi (pc := 16) C (cM_within B _ _ _) q826 mX1_within rfl dX1_about_16 (by decide) (Nat.le_of_ble_eq_true rfl) ?_
    refine r_if_ne (pc := 19) 33 C dX1_about_19 (by decide) (fun c19 => ?_) (fun c19 => ?_)
    · have hw0 : ¬ jin w 0 4 = 0 ∨ ¬ jin w 10 12 = 0 := Or.inl c19
      refine r_aload_n (pc := 33) C dX1_about_33 rfl ?_
      refine r_iload_n (pc := 34) C dX1_about_34 rfl ?_
      refine r_iload_n (pc := 35) C dX1_about_35 rfl ?_
      refine M_cQi (pc := 36) C (cM_princeNow B a _ _ _ (by assumption) (by assumption) (by assumption)) q896 mX1_princeNow rfl dX1_about_36 (by decide) (Nat.le_of_ble_eq_true rfl) ?_
      refine r_goto (pc := 39) 44 C dX1_about_39 (by decide) ?_
      exact r_iret (pc := 44) C hR dX1_about_44 (by decide) (by decide) (by refine ⟨?_, ?_⟩ <;> (try simp only [m_about, c5, c19, ↓reduceIte]) <;> (try rfl))
    · refine r_iload_n (pc := 22) C dX1_about_22 rfl ?_
      refine r_bipush (pc := 23) (10) C dX1_about_23 (by decide) ?_
      refine r_bipush (pc := 25) (12) C dX1_about_25 (by decide) ?_
      refine S_cQi (pc := 27) C (cM_within B _ _ _) q826 mX1_within rfl dX1_about_27 (by decide) (Nat.le_of_ble_eq_true rfl) ?_
      refine r_if_eq (pc := 30) 42 C dX1_about_30 (by decide) (fun c30 => ?_) (fun c30 => ?_)
      · refine r_bipush (pc := 42) (-102) C dX1_about_42 (by decide) ?_
        exact r_iret (pc := 44) C hR dX1_about_44 (by decide) (by decide) (by refine ⟨?_, ?_⟩ <;> (try simp only [m_about, c5, c19, c30, ↓reduceIte]) <;> (try rfl))
      · have hw0 : ¬ jin w 0 4 = 0 ∨ ¬ jin w 10 12 = 0 := Or.inr c30
        refine r_aload_n (pc := 33) C dX1_about_33 rfl ?_
        refine r_iload_n (pc := 34) C dX1_about_34 rfl ?_
        refine r_iload_n (pc := 35) C dX1_about_35 rfl ?_
        refine M_cQi (pc := 36) C (cM_princeNow B a _ _ _ (by assumption) (by assumption) (by assumption)) q896 mX1_princeNow rfl dX1_about_36 (by decide) (Nat.le_of_ble_eq_true rfl) ?_
        refine r_goto (pc := 39) 44 C dX1_about_39 (by decide) ?_
        exact r_iret (pc := 44) C hR dX1_about_44 (by decide) (by decide) (by refine ⟨?_, ?_⟩ <;> (try simp only [m_about, c5, c19, c30, ↓reduceIte]) <;> (try rfl))
  · refine r_bipush (pc := 8) (-101) C dX1_about_8 (by decide) ?_
    refine r_goto (pc := 10) 44 C dX1_about_10 (by decide) ?_
    exact r_iret (pc := 44) C hR dX1_about_44 (by decide) (by decide) (by refine ⟨?_, ?_⟩ <;> (try simp only [m_about, c5, ↓reduceIte]) <;> (try rfl))

set_option maxHeartbeats 4000000 in
theorem cM_as {G : Gx} (B : Base G) (a : Nat → Nat) (T : StM) (p k : Int32) (hI : IM T) : Ci G yX1_as cX1_as 4 .int (rmD 2) (wM G a) T [.ref (a 0), .int p, .int k] (fun r S' => r = m_as T p k ∧ S' = T) := by
  refine Ci.of B [some (.ref (a 0)), some (.int p), some (.int k), none] (by decide) rfl (Nat.le_of_ble_eq_true rfl) (fun E C hR => ?_)
  have C : CxOk E RX1 cX1_as 4 G (rmD 2) := C
  refine r_aload_n (pc := 0) C dX1_as_0 rfl ?_
  refine r_iload_n (pc := 1) C dX1_as_1 rfl ?_
  refine M_cQi (pc := 2) C (cM_isPrince B a _ _) q892 mX1_isPrince rfl dX1_as_2 (by decide) (Nat.le_of_ble_eq_true rfl) ?_
  refine r_if_ne (pc := 5) 11 C dX1_as_5 (by decide) (fun c5 => ?_) (fun c5 => ?_)
  · have hp := hI.pr c5
    refine r_iload_n (pc := 11) C dX1_as_11 rfl ?_
    refine r_iconst (pc := 12) (0) C dX1_as_12 (by decide) ?_
    refine r_iconst (pc := 13) (4) C dX1_as_13 (by decide) ?_
    refine S_cQi (pc := 14) C (cM_within B _ _ _) q826 mX1_within rfl dX1_as_14 (by decide) (Nat.le_of_ble_eq_true rfl) ?_
    refine r_if_ne (pc := 17) 23 C dX1_as_17 (by decide) (fun c17 => ?_) (fun c17 => ?_)
    · refine r_aload_n (pc := 23) C dX1_as_23 rfl ?_
      refine M_g7 (pc := 24) C dX1_as_24 ?_
      refine r_iload_n (pc := 27) C dX1_as_27 rfl ?_
      refine M_l7 (pc := 28) C dX1_as_28 (by assumption) ?_
      refine r_istore_n (pc := 29) C dX1_as_29 (by decide) ?_
      refine r_iload_n (pc := 30) C dX1_as_30 rfl ?_
      refine r_if_eq (pc := 31) 49 C dX1_as_31 (by decide) (fun c31 => ?_) (fun c31 => ?_)
      · refine r_iload_n (pc := 49) C dX1_as_49 rfl ?_
        refine r_goto (pc := 50) 54 C dX1_as_50 (by decide) ?_
        exact r_iret (pc := 54) C hR dX1_as_54 (by decide) (by decide) ⟨by (rw [m_as, if_neg c5, if_neg c17, if_pos c31] <;> rfl), rfl⟩
      · refine r_iload_n (pc := 34) C dX1_as_34 rfl ?_
        refine r_iload_n (pc := 35) C dX1_as_35 rfl ?_
        refine r_icmp_eq (pc := 36) 49 C dX1_as_36 (by decide) (fun c36 => ?_) (fun c36 => ?_)
        · refine r_iload_n (pc := 49) C dX1_as_49 rfl ?_
          refine r_goto (pc := 50) 54 C dX1_as_50 (by decide) ?_
          exact r_iret (pc := 54) C hR dX1_as_54 (by decide) (by decide) ⟨by (rw [m_as, if_neg c5, if_neg c17, if_neg c31, if_pos c36] <;> rfl), rfl⟩
        · refine r_iload_n (pc := 39) C dX1_as_39 rfl ?_
          refine r_iconst (pc := 40) (1) C dX1_as_40 (by decide) ?_
          refine r_icmp_ne (pc := 41) 53 C dX1_as_41 (by decide) (fun c41 => ?_) (fun c41 => ?_)
          · refine r_iconst (pc := 53) (-1) C dX1_as_53 (by decide) ?_
            exact r_iret (pc := 54) C hR dX1_as_54 (by decide) (by decide) ⟨by (rw [m_as, if_neg c5, if_neg c17, if_neg c31, if_neg c36, if_neg c41] <;> rfl), rfl⟩
          · refine r_iload_n (pc := 44) C dX1_as_44 rfl ?_
            refine r_iconst (pc := 45) (4) C dX1_as_45 (by decide) ?_
            refine r_icmp_ne (pc := 46) 53 C dX1_as_46 (by decide) (fun c46 => ?_) (fun c46 => ?_)
            · refine r_iconst (pc := 53) (-1) C dX1_as_53 (by decide) ?_
              exact r_iret (pc := 54) C hR dX1_as_54 (by decide) (by decide) ⟨by (rw [m_as, if_neg c5, if_neg c17, if_neg c31, if_neg c36, if_pos c41, if_neg c46] <;> rfl), rfl⟩
            · refine r_iload_n (pc := 49) C dX1_as_49 rfl ?_
              refine r_goto (pc := 50) 54 C dX1_as_50 (by decide) ?_
              exact r_iret (pc := 54) C hR dX1_as_54 (by decide) (by decide) ⟨by (rw [m_as, if_neg c5, if_neg c17, if_neg c31, if_neg c36, if_pos c41, if_pos c46] <;> rfl), rfl⟩
    · refine r_bipush (pc := 20) (-102) C dX1_as_20 (by decide) ?_
      exact r_iret (pc := 22) C hR dX1_as_22 (by decide) (by decide) ⟨by (rw [m_as, if_neg c5, if_pos c17] <;> rfl), rfl⟩
  · refine r_bipush (pc := 8) (-101) C dX1_as_8 (by decide) ?_
    exact r_iret (pc := 10) C hR dX1_as_10 (by decide) (by decide) ⟨by (rw [m_as, if_pos c5] <;> rfl), rfl⟩

set_option maxHeartbeats 4000000 in
theorem cM_give {G : Gx} (B : Base G) (a : Nat → Nat) (T : StM) (p b : Int32) (hI : IM T) : Ci G yX1_give cX1_give 4 .int (rmD 2) (wM G a) T [.ref (a 0), .int p, .int b] (fun r S' => r = (m_give T p b).1 ∧ S' = (m_give T p b).2) := by
  refine Ci.of B [some (.ref (a 0)), some (.int p), some (.int b), none] (by decide) rfl (Nat.le_of_ble_eq_true rfl) (fun E C hR => ?_)
  have C : CxOk E RX1 cX1_give 4 G (rmD 2) := C
  refine r_aload_n (pc := 0) C dX1_give_0 rfl ?_
  refine r_iload_n (pc := 1) C dX1_give_1 rfl ?_
  refine M_cQi (pc := 2) C (cM_isPrince B a _ _) q892 mX1_isPrince rfl dX1_give_2 (by decide) (Nat.le_of_ble_eq_true rfl) ?_
  refine r_if_eq (pc := 5) 16 C dX1_give_5 (by decide) (fun c5 => ?_) (fun c5 => ?_)
  · refine r_bipush (pc := 16) (-101) C dX1_give_16 (by decide) ?_
    exact r_iret (pc := 18) C hR dX1_give_18 (by decide) (by decide) (by refine ⟨?_, ?_⟩ <;> (try simp only [m_give, c5, ↓reduceIte]) <;> (try rfl))
  · have hp := hI.pr c5
    refine r_aload_n (pc := 8) C dX1_give_8 rfl ?_
    refine r_iload_n (pc := 9) C dX1_give_9 rfl ?_
    refine M_cQi (pc := 10) C (cM_isBoy B a _ _) q880 mX1_isBoy rfl dX1_give_10 (by decide) (Nat.le_of_ble_eq_true rfl) ?_
    refine r_if_ne (pc := 13) 19 C dX1_give_13 (by decide) (fun c13 => ?_) (fun c13 => ?_)
    · refine r_aload_n (pc := 19) C dX1_give_19 rfl ?_
      refine M_g9 (pc := 20) C dX1_give_20 ?_
      refine r_iload_n (pc := 23) C dX1_give_23 rfl ?_
      refine M_l9 (pc := 24) C dX1_give_24 (by assumption) ?_
      refine r_istore_n (pc := 25) C dX1_give_25 (by decide) ?_
      refine r_aload_n (pc := 26) C dX1_give_26 rfl ?_
      refine M_g9 (pc := 27) C dX1_give_27 ?_
      refine r_iload_n (pc := 30) C dX1_give_30 rfl ?_
      refine r_iload_n (pc := 31) C dX1_give_31 rfl ?_
      refine M_s9 (pc := 32) C dX1_give_32 (by assumption) ?_
      refine r_iload_n (pc := 33) C dX1_give_33 rfl ?_
      exact r_iret (pc := 34) C hR dX1_give_34 (by decide) (by decide) (by refine ⟨?_, ?_⟩ <;> (try simp only [m_give, c5, c13, ↓reduceIte]) <;> (try rfl))
    · refine r_bipush (pc := 16) (-101) C dX1_give_16 (by decide) ?_
      exact r_iret (pc := 18) C hR dX1_give_18 (by decide) (by decide) (by refine ⟨?_, ?_⟩ <;> (try simp only [m_give, c5, c13, ↓reduceIte]) <;> (try rfl))

set_option maxHeartbeats 4000000 in
theorem cM_fond {G : Gx} (B : Base G) (a : Nat → Nat) (T : StM) (p b v : Int32) (hI : IM T) : Ci G yX1_fond cX1_fond 5 .int (rmD 2) (wM G a) T [.ref (a 0), .int p, .int b, .int v] (fun r S' => r = (m_fond T p b v).1 ∧ S' = (m_fond T p b v).2) := by
  refine Ci.of B [some (.ref (a 0)), some (.int p), some (.int b), some (.int v), none] (by decide) rfl (Nat.le_of_ble_eq_true rfl) (fun E C hR => ?_)
  have C : CxOk E RX1 cX1_fond 5 G (rmD 2) := C
  refine r_aload_n (pc := 0) C dX1_fond_0 rfl ?_
  refine r_iload_n (pc := 1) C dX1_fond_1 rfl ?_
  refine M_cQi (pc := 2) C (cM_isPrince B a _ _) q892 mX1_isPrince rfl dX1_fond_2 (by decide) (Nat.le_of_ble_eq_true rfl) ?_
  refine r_if_eq (pc := 5) 16 C dX1_fond_5 (by decide) (fun c5 => ?_) (fun c5 => ?_)
  · refine r_bipush (pc := 16) (-101) C dX1_fond_16 (by decide) ?_
    exact r_iret (pc := 18) C hR dX1_fond_18 (by decide) (by decide) (by refine ⟨?_, ?_⟩ <;> (try simp only [m_fond, c5, ↓reduceIte]) <;> (try rfl))
  · have hp := hI.pr c5
    refine r_aload_n (pc := 8) C dX1_fond_8 rfl ?_
    refine r_iload_n (pc := 9) C dX1_fond_9 rfl ?_
    refine M_cQi (pc := 10) C (cM_isBoy B a _ _) q880 mX1_isBoy rfl dX1_fond_10 (by decide) (Nat.le_of_ble_eq_true rfl) ?_
    refine r_if_ne (pc := 13) 19 C dX1_fond_13 (by decide) (fun c13 => ?_) (fun c13 => ?_)
    · refine r_iload_n (pc := 19) C dX1_fond_19 rfl ?_
      refine r_iconst (pc := 20) (0) C dX1_fond_20 (by decide) ?_
      refine r_bipush (pc := 21) (9) C dX1_fond_21 (by decide) ?_
      refine S_cQi (pc := 23) C (cM_within B _ _ _) q826 mX1_within rfl dX1_fond_23 (by decide) (Nat.le_of_ble_eq_true rfl) ?_
      refine r_if_ne (pc := 26) 32 C dX1_fond_26 (by decide) (fun c26 => ?_) (fun c26 => ?_)
      · refine r_aload_n (pc := 32) C dX1_fond_32 rfl ?_
        refine M_g11 (pc := 33) C dX1_fond_33 ?_
        refine r_iconst (pc := 36) (3) C dX1_fond_36 (by decide) ?_
        refine r_iload_n (pc := 37) C dX1_fond_37 rfl ?_
        refine r_imul (pc := 38) C dX1_fond_38 ?_
        refine r_iload_n (pc := 39) C dX1_fond_39 rfl ?_
        refine r_iadd (pc := 40) C dX1_fond_40 ?_
        refine M_l11 (pc := 41) C dX1_fond_41 (vin9p hp (m_boy_in c13)) ?_
        refine r_istore (pc := 42) C dX1_fond_42 (by decide) ?_
        refine r_aload_n (pc := 44) C dX1_fond_44 rfl ?_
        refine M_g11 (pc := 45) C dX1_fond_45 ?_
        refine r_iconst (pc := 48) (3) C dX1_fond_48 (by decide) ?_
        refine r_iload_n (pc := 49) C dX1_fond_49 rfl ?_
        refine r_imul (pc := 50) C dX1_fond_50 ?_
        refine r_iload_n (pc := 51) C dX1_fond_51 rfl ?_
        refine r_iadd (pc := 52) C dX1_fond_52 ?_
        refine r_iload_n (pc := 53) C dX1_fond_53 rfl ?_
        refine M_s11 (pc := 54) C dX1_fond_54 (vin9p hp (m_boy_in c13)) ?_
        refine r_iload (pc := 55) C dX1_fond_55 rfl ?_
        exact r_iret (pc := 57) C hR dX1_fond_57 (by decide) (by decide) (by refine ⟨?_, ?_⟩ <;> (try simp only [m_fond, c5, c13, c26, ↓reduceIte]) <;> (try rfl))
      · refine r_bipush (pc := 29) (-102) C dX1_fond_29 (by decide) ?_
        exact r_iret (pc := 31) C hR dX1_fond_31 (by decide) (by decide) (by refine ⟨?_, ?_⟩ <;> (try simp only [m_fond, c5, c13, c26, ↓reduceIte]) <;> (try rfl))
    · refine r_bipush (pc := 16) (-101) C dX1_fond_16 (by decide) ?_
      exact r_iret (pc := 18) C hR dX1_fond_18 (by decide) (by decide) (by refine ⟨?_, ?_⟩ <;> (try simp only [m_fond, c5, c13, ↓reduceIte]) <;> (try rfl))

set_option maxHeartbeats 4000000 in
theorem cM_tenths {G : Gx} (B : Base G) (a : Nat → Nat) (T : StM) (p l : Int32) (hI : IM T) : Ci G yX1_tenths cX1_tenths 3 .int (rmD 3) (wM G a) T [.ref (a 0), .int p, .int l] (fun r S' => r = m_tenths T p l ∧ S' = T) := by
  refine Ci.of B [some (.ref (a 0)), some (.int p), some (.int l)] (by decide) rfl (Nat.le_of_ble_eq_true rfl) (fun E C hR => ?_)
  have C : CxOk E RX1 cX1_tenths 3 G (rmD 3) := C
  refine r_aload_n (pc := 0) C dX1_tenths_0 rfl ?_
  refine r_iload_n (pc := 1) C dX1_tenths_1 rfl ?_
  refine M_cQi (pc := 2) C (cM_isPrince B a _ _) q892 mX1_isPrince rfl dX1_tenths_2 (by decide) (Nat.le_of_ble_eq_true rfl) ?_
  refine r_if_eq (pc := 5) 25 C dX1_tenths_5 (by decide) (fun c5 => ?_) (fun c5 => ?_)
  · refine r_bipush (pc := 25) (-101) C dX1_tenths_25 (by decide) ?_
    exact r_iret (pc := 27) C hR dX1_tenths_27 (by decide) (by decide) (by refine ⟨?_, ?_⟩ <;> (try simp only [m_tenths, c5, ↓reduceIte]) <;> (try rfl))
  · have hp := hI.pr c5
    refine r_aload_n (pc := 8) C dX1_tenths_8 rfl ?_
    refine r_iload_n (pc := 9) C dX1_tenths_9 rfl ?_
    refine M_cQi (pc := 10) C (cM_isLesson B a _ _) q861 mX1_isLesson rfl dX1_tenths_10 (by decide) (Nat.le_of_ble_eq_true rfl) ?_
    refine r_if_eq (pc := 13) 25 C dX1_tenths_13 (by decide) (fun c13 => ?_) (fun c13 => ?_)
    · refine r_bipush (pc := 25) (-101) C dX1_tenths_25 (by decide) ?_
      exact r_iret (pc := 27) C hR dX1_tenths_27 (by decide) (by decide) (by refine ⟨?_, ?_⟩ <;> (try simp only [m_tenths, c5, c13, ↓reduceIte]) <;> (try rfl))
    · have hl := hI.ls c13
      refine r_aload_n (pc := 16) C dX1_tenths_16 rfl ?_
      refine r_iload_n (pc := 17) C dX1_tenths_17 rfl ?_
      refine r_iload_n (pc := 18) C dX1_tenths_18 rfl ?_
      refine M_cQi (pc := 19) C (cM_tenthsNow B a _ _ _ (by assumption) (by assumption) (by assumption)) q923 mX1_tenthsNow rfl dX1_tenths_19 (by decide) (Nat.le_of_ble_eq_true rfl) ?_
      refine r_goto (pc := 22) 27 C dX1_tenths_22 (by decide) ?_
      exact r_iret (pc := 27) C hR dX1_tenths_27 (by decide) (by decide) (by refine ⟨?_, ?_⟩ <;> (try simp only [m_tenths, c5, c13, ↓reduceIte]) <;> (try rfl))

set_option maxHeartbeats 4000000 in
theorem cM_fails {G : Gx} (B : Base G) (a : Nat → Nat) (T : StM) (p l : Int32) (hI : IM T) (hp : vp_in p 3) (hl : vp_in l 5) : Cv G yX1_fails cX1_fails 5 (rmD 0) (wM G a) T [.ref (a 0), .int p, .int l] (fun S' => S' = m_fail T p l) := by
  refine Cv.of B [some (.ref (a 0)), some (.int p), some (.int l), none, none] (by decide) rfl (Nat.le_of_ble_eq_true rfl) (fun E C hR => ?_)
  have C : CxOk E RX1 cX1_fails 5 G (rmD 0) := C
  have hb := hI.boy hp
  have hbi : vp_in (mar T 9 p.toNatClampNeg) 3 := hb.in (by decide) (by decide)
  refine r_aload_n (pc := 0) C dX1_fails_0 rfl ?_
  refine M_g9 (pc := 1) C dX1_fails_1 ?_
  refine r_iload_n (pc := 4) C dX1_fails_4 rfl ?_
  refine M_l9 (pc := 5) C dX1_fails_5 (by assumption) ?_
  refine r_istore_n (pc := 6) C dX1_fails_6 (by decide) ?_
  refine r_aload_n (pc := 7) C dX1_fails_7 rfl ?_
  refine M_g5 (pc := 8) C dX1_fails_8 ?_
  refine r_iload_n (pc := 11) C dX1_fails_11 rfl ?_
  refine r_dup2_11 (pc := 12) C dX1_fails_12 rfl rfl ?_
  refine M_l5 (pc := 13) C dX1_fails_13 (by assumption) ?_
  refine r_aload_n (pc := 14) C dX1_fails_14 rfl ?_
  refine M_g4 (pc := 15) C dX1_fails_15 ?_
  refine r_iload_n (pc := 18) C dX1_fails_18 rfl ?_
  refine M_l4 (pc := 19) C dX1_fails_19 (by assumption) ?_
  refine r_iadd (pc := 20) C dX1_fails_20 ?_
  refine M_s5 (pc := 21) C dX1_fails_21 (by assumption) ?_
  refine r_aload_n (pc := 22) C dX1_fails_22 rfl ?_
  refine M_g11 (pc := 23) C dX1_fails_23 ?_
  refine r_iconst (pc := 26) (3) C dX1_fails_26 (by decide) ?_
  refine r_iload_n (pc := 27) C dX1_fails_27 rfl ?_
  refine r_imul (pc := 28) C dX1_fails_28 ?_
  refine r_iload_n (pc := 29) C dX1_fails_29 rfl ?_
  refine r_iadd (pc := 30) C dX1_fails_30 ?_
  refine M_l11 (pc := 31) C dX1_fails_31 (vin9p hp hb) ?_
  refine r_aload_n (pc := 32) C dX1_fails_32 rfl ?_
  refine M_g5 (pc := 33) C dX1_fails_33 ?_
  refine r_iload_n (pc := 36) C dX1_fails_36 rfl ?_
  refine M_l5 (pc := 37) C dX1_fails_37 (by assumption) ?_
  refine r_aload_n (pc := 38) C dX1_fails_38 rfl ?_
  refine M_g2 (pc := 39) C dX1_fails_39 ?_
  refine r_icmp_gt (pc := 42) 49 C dX1_fails_42 (by decide) (fun c42 => ?_) (fun c42 => ?_)
  · have c42 := Int32.not_le.mpr c42
    refine r_bipush (pc := 49) (-2) C dX1_fails_49 (by decide) ?_
    refine r_iadd (pc := 51) C dX1_fails_51 ?_
    refine r_istore (pc := 52) C dX1_fails_52 (by decide) ?_
    refine r_aload_n (pc := 54) C dX1_fails_54 rfl ?_
    refine M_g11 (pc := 55) C dX1_fails_55 ?_
    refine r_iconst (pc := 58) (3) C dX1_fails_58 (by decide) ?_
    refine r_iload_n (pc := 59) C dX1_fails_59 rfl ?_
    refine r_imul (pc := 60) C dX1_fails_60 ?_
    refine r_iload_n (pc := 61) C dX1_fails_61 rfl ?_
    refine r_iadd (pc := 62) C dX1_fails_62 ?_
    refine r_iload (pc := 63) C dX1_fails_63 rfl ?_
    refine r_if_ge (pc := 65) 72 C dX1_fails_65 (by decide) (fun c65 => ?_) (fun c65 => ?_)
    · refine r_iload (pc := 72) C dX1_fails_72 rfl ?_
      refine r_bipush (pc := 74) (9) C dX1_fails_74 (by decide) ?_
      refine r_icmp_le (pc := 76) 84 C dX1_fails_76 (by decide) (fun c76 => ?_) (fun c76 => ?_)
      · refine r_iload (pc := 84) C dX1_fails_84 rfl ?_
        refine M_s11 (pc := 86) C dX1_fails_86 (vin9p hp hb) ?_
        exact r_vret (pc := 87) C hR dX1_fails_87 (by decide) (by decide) (congrArg (fun v => setMa (m_beat T p l) 11 (upd (mar T 11) (3 * p + mar T 9 p.toNatClampNeg).toNatClampNeg v)) (((fondNext_gt c42).trans (clampTo_mid c65 c76)).symm))
      · refine r_bipush (pc := 79) (9) C dX1_fails_79 (by decide) ?_
        refine r_goto (pc := 81) 86 C dX1_fails_81 (by decide) ?_
        refine M_s11 (pc := 86) C dX1_fails_86 (vin9p hp hb) ?_
        exact r_vret (pc := 87) C hR dX1_fails_87 (by decide) (by decide) (congrArg (fun v => setMa (m_beat T p l) 11 (upd (mar T 11) (3 * p + mar T 9 p.toNatClampNeg).toNatClampNeg v)) (((fondNext_gt c42).trans (clampTo_hi (by decide) c76)).symm))
    · refine r_iconst (pc := 68) (0) C dX1_fails_68 (by decide) ?_
      refine r_goto (pc := 69) 86 C dX1_fails_69 (by decide) ?_
      refine M_s11 (pc := 86) C dX1_fails_86 (vin9p hp hb) ?_
      exact r_vret (pc := 87) C hR dX1_fails_87 (by decide) (by decide) (congrArg (fun v => setMa (m_beat T p l) 11 (upd (mar T 11) (3 * p + mar T 9 p.toNatClampNeg).toNatClampNeg v)) (((fondNext_gt c42).trans (clampTo_lo (by decide) c65)).symm))
  · have c42 := Int32.not_lt.mp c42
    refine r_iconst (pc := 45) (1) C dX1_fails_45 (by decide) ?_
    refine r_goto (pc := 46) 51 C dX1_fails_46 (by decide) ?_
    refine r_iadd (pc := 51) C dX1_fails_51 ?_
    refine r_istore (pc := 52) C dX1_fails_52 (by decide) ?_
    refine r_aload_n (pc := 54) C dX1_fails_54 rfl ?_
    refine M_g11 (pc := 55) C dX1_fails_55 ?_
    refine r_iconst (pc := 58) (3) C dX1_fails_58 (by decide) ?_
    refine r_iload_n (pc := 59) C dX1_fails_59 rfl ?_
    refine r_imul (pc := 60) C dX1_fails_60 ?_
    refine r_iload_n (pc := 61) C dX1_fails_61 rfl ?_
    refine r_iadd (pc := 62) C dX1_fails_62 ?_
    refine r_iload (pc := 63) C dX1_fails_63 rfl ?_
    refine r_if_ge (pc := 65) 72 C dX1_fails_65 (by decide) (fun c65 => ?_) (fun c65 => ?_)
    · refine r_iload (pc := 72) C dX1_fails_72 rfl ?_
      refine r_bipush (pc := 74) (9) C dX1_fails_74 (by decide) ?_
      refine r_icmp_le (pc := 76) 84 C dX1_fails_76 (by decide) (fun c76 => ?_) (fun c76 => ?_)
      · refine r_iload (pc := 84) C dX1_fails_84 rfl ?_
        refine M_s11 (pc := 86) C dX1_fails_86 (vin9p hp hb) ?_
        exact r_vret (pc := 87) C hR dX1_fails_87 (by decide) (by decide) (congrArg (fun v => setMa (m_beat T p l) 11 (upd (mar T 11) (3 * p + mar T 9 p.toNatClampNeg).toNatClampNeg v)) (((fondNext_le c42).trans (clampTo_mid c65 c76)).symm))
      · refine r_bipush (pc := 79) (9) C dX1_fails_79 (by decide) ?_
        refine r_goto (pc := 81) 86 C dX1_fails_81 (by decide) ?_
        refine M_s11 (pc := 86) C dX1_fails_86 (vin9p hp hb) ?_
        exact r_vret (pc := 87) C hR dX1_fails_87 (by decide) (by decide) (congrArg (fun v => setMa (m_beat T p l) 11 (upd (mar T 11) (3 * p + mar T 9 p.toNatClampNeg).toNatClampNeg v)) (((fondNext_le c42).trans (clampTo_hi (by decide) c76)).symm))
    · refine r_iconst (pc := 68) (0) C dX1_fails_68 (by decide) ?_
      refine r_goto (pc := 69) 86 C dX1_fails_69 (by decide) ?_
      refine M_s11 (pc := 86) C dX1_fails_86 (vin9p hp hb) ?_
      exact r_vret (pc := 87) C hR dX1_fails_87 (by decide) (by decide) (congrArg (fun v => setMa (m_beat T p l) 11 (upd (mar T 11) (3 * p + mar T 9 p.toNatClampNeg).toNatClampNeg v)) (((fondNext_le c42).trans (clampTo_lo (by decide) c65)).symm))

set_option maxHeartbeats 4000000 in
theorem cM_teach {G : Gx} (B : Base G) (a : Nat → Nat) (T : StM) (p l b : Int32) (hI : IM T) : Ci G yX1_teach cX1_teach 4 .int (rmD 3) (wM G a) T [.ref (a 0), .int p, .int l, .int b] (fun r S' => r = (m_teach T p l b).1 ∧ S' = (m_teach T p l b).2) := by
  refine Ci.of B [some (.ref (a 0)), some (.int p), some (.int l), some (.int b)] (by decide) rfl (Nat.le_of_ble_eq_true rfl) (fun E C hR => ?_)
  have C : CxOk E RX1 cX1_teach 4 G (rmD 3) := C
  refine r_aload_n (pc := 0) C dX1_teach_0 rfl ?_
  refine r_iload_n (pc := 1) C dX1_teach_1 rfl ?_
  refine M_cQi (pc := 2) C (cM_isPrince B a _ _) q892 mX1_isPrince rfl dX1_teach_2 (by decide) (Nat.le_of_ble_eq_true rfl) ?_
  refine r_if_eq (pc := 5) 16 C dX1_teach_5 (by decide) (fun c5 => ?_) (fun c5 => ?_)
  · refine r_bipush (pc := 16) (-101) C dX1_teach_16 (by decide) ?_
    exact r_iret (pc := 18) C hR dX1_teach_18 (by decide) (by decide) ⟨by (rw [m_teach, if_pos c5] <;> rfl), by (rw [m_teach, if_pos c5] <;> rfl)⟩
  · have hp := hI.pr c5
    refine r_aload_n (pc := 8) C dX1_teach_8 rfl ?_
    refine r_iload_n (pc := 9) C dX1_teach_9 rfl ?_
    refine M_cQi (pc := 10) C (cM_isLesson B a _ _) q861 mX1_isLesson rfl dX1_teach_10 (by decide) (Nat.le_of_ble_eq_true rfl) ?_
    refine r_if_ne (pc := 13) 19 C dX1_teach_13 (by decide) (fun c13 => ?_) (fun c13 => ?_)
    · have hl := hI.ls c13
      have hbi : vp_in (mar T 9 p.toNatClampNeg) 3 := (hI.boy hp).in (by decide) (by decide)
      refine r_aload_n (pc := 19) C dX1_teach_19 rfl ?_
      refine M_g10 (pc := 20) C dX1_teach_20 ?_
      refine r_iload_n (pc := 23) C dX1_teach_23 rfl ?_
      refine M_l10 (pc := 24) C dX1_teach_24 (by assumption) ?_
      refine r_iload_n (pc := 25) C dX1_teach_25 rfl ?_
      refine S_cQi (pc := 26) C (cM_has B _ _) q873 mX1_has rfl dX1_teach_26 (by decide) (Nat.le_of_ble_eq_true rfl) ?_
      refine r_if_ne (pc := 29) 51 C dX1_teach_29 (by decide) (fun c29 => ?_) (fun c29 => ?_)
      · refine r_bipush (pc := 51) (-103) C dX1_teach_51 (by decide) ?_
        exact r_iret (pc := 53) C hR dX1_teach_53 (by decide) (by decide) ⟨by (rw [m_teach, if_neg c5, if_neg c13, if_neg c29] <;> rfl), by (rw [m_teach, if_neg c5, if_neg c13, if_neg c29] <;> rfl)⟩
      · refine r_aload_n (pc := 32) C dX1_teach_32 rfl ?_
        refine r_iload_n (pc := 33) C dX1_teach_33 rfl ?_
        refine r_iload_n (pc := 34) C dX1_teach_34 rfl ?_
        refine M_cQi (pc := 35) C (cM_tenthsNow B a _ _ _ (by assumption) (by assumption) (by assumption)) q923 mX1_tenthsNow rfl dX1_teach_35 (by decide) (Nat.le_of_ble_eq_true rfl) ?_
        refine r_iload_n (pc := 38) C dX1_teach_38 rfl ?_
        refine r_if_eq (pc := 39) 46 C dX1_teach_39 (by decide) (fun c39 => ?_) (fun c39 => ?_)
        · refine r_bipush (pc := 46) (10) C dX1_teach_46 (by decide) ?_
          refine r_icmp_ne (pc := 48) 54 C dX1_teach_48 (by decide) (fun c48 => ?_) (fun c48 => ?_)
          · refine r_iload_n (pc := 54) C dX1_teach_54 rfl ?_
            refine r_if_eq (pc := 55) 73 C dX1_teach_55 (by decide) (fun c55 => ?_) (fun c55 => ?_)
            · refine r_aload_n (pc := 73) C dX1_teach_73 rfl ?_
              refine r_iload_n (pc := 74) C dX1_teach_74 rfl ?_
              refine r_iload_n (pc := 75) C dX1_teach_75 rfl ?_
              refine M_cQv (pc := 76) C (cM_fails B a _ _ _ (by assumption) (by assumption) (by assumption)) q935 mX1_fails rfl dX1_teach_76 (by decide) (Nat.le_of_ble_eq_true rfl) ?_
              refine r_aload_n (pc := 79) C dX1_teach_79 rfl ?_
              refine M_g5 (pc := 80) C dX1_teach_80 ?_
              refine r_aload_n (pc := 83) C dX1_teach_83 rfl ?_
              refine M_g9 (pc := 84) C dX1_teach_84 ?_
              refine r_iload_n (pc := 87) C dX1_teach_87 rfl ?_
              refine M_l9 (pc := 88) C dX1_teach_88 (by assumption) ?_
              refine M_l5 (pc := 89) C dX1_teach_89 (by assumption) ?_
              exact r_iret (pc := 90) C hR dX1_teach_90 (by decide) (by decide) ⟨by (rw [m_teach, if_neg c5, if_neg c13, if_pos c29, if_pos c39, if_neg c48, m_teachS, m_taught, if_pos c39] <;> rfl), by (rw [m_teach, if_neg c5, if_neg c13, if_pos c29, if_pos c39, if_neg c48, m_teachS, m_taught, if_pos c39] <;> rfl)⟩
            · refine r_aload_n (pc := 58) C dX1_teach_58 rfl ?_
              refine M_g10 (pc := 59) C dX1_teach_59 ?_
              refine r_iload_n (pc := 62) C dX1_teach_62 rfl ?_
              refine r_dup2_11 (pc := 63) C dX1_teach_63 rfl rfl ?_
              refine M_l10 (pc := 64) C dX1_teach_64 (by assumption) ?_
              refine r_iconst (pc := 65) (1) C dX1_teach_65 (by decide) ?_
              refine r_iload_n (pc := 66) C dX1_teach_66 rfl ?_
              refine r_ishl (pc := 67) C dX1_teach_67 ?_
              refine r_ior (pc := 68) C dX1_teach_68 ?_
              refine M_s10 (pc := 69) C dX1_teach_69 (by assumption) ?_
              refine r_goto (pc := 70) 79 C dX1_teach_70 (by decide) ?_
              refine r_aload_n (pc := 79) C dX1_teach_79 rfl ?_
              refine M_g5 (pc := 80) C dX1_teach_80 ?_
              refine r_aload_n (pc := 83) C dX1_teach_83 rfl ?_
              refine M_g9 (pc := 84) C dX1_teach_84 ?_
              refine r_iload_n (pc := 87) C dX1_teach_87 rfl ?_
              refine M_l9 (pc := 88) C dX1_teach_88 (by assumption) ?_
              refine M_l5 (pc := 89) C dX1_teach_89 (by assumption) ?_
              exact r_iret (pc := 90) C hR dX1_teach_90 (by decide) (by decide) (absurd c39 c55)
          · refine r_bipush (pc := 51) (-103) C dX1_teach_51 (by decide) ?_
            exact r_iret (pc := 53) C hR dX1_teach_53 (by decide) (by decide) ⟨by (rw [m_teach, if_neg c5, if_neg c13, if_pos c29, if_pos c39, if_pos c48] <;> rfl), by (rw [m_teach, if_neg c5, if_neg c13, if_pos c29, if_pos c39, if_pos c48] <;> rfl)⟩
        · refine r_iconst (pc := 42) (0) C dX1_teach_42 (by decide) ?_
          refine r_goto (pc := 43) 48 C dX1_teach_43 (by decide) ?_
          refine r_icmp_ne (pc := 48) 54 C dX1_teach_48 (by decide) (fun c48 => ?_) (fun c48 => ?_)
          · refine r_iload_n (pc := 54) C dX1_teach_54 rfl ?_
            refine r_if_eq (pc := 55) 73 C dX1_teach_55 (by decide) (fun c55 => ?_) (fun c55 => ?_)
            · refine r_aload_n (pc := 73) C dX1_teach_73 rfl ?_
              refine r_iload_n (pc := 74) C dX1_teach_74 rfl ?_
              refine r_iload_n (pc := 75) C dX1_teach_75 rfl ?_
              refine M_cQv (pc := 76) C (cM_fails B a _ _ _ (by assumption) (by assumption) (by assumption)) q935 mX1_fails rfl dX1_teach_76 (by decide) (Nat.le_of_ble_eq_true rfl) ?_
              refine r_aload_n (pc := 79) C dX1_teach_79 rfl ?_
              refine M_g5 (pc := 80) C dX1_teach_80 ?_
              refine r_aload_n (pc := 83) C dX1_teach_83 rfl ?_
              refine M_g9 (pc := 84) C dX1_teach_84 ?_
              refine r_iload_n (pc := 87) C dX1_teach_87 rfl ?_
              refine M_l9 (pc := 88) C dX1_teach_88 (by assumption) ?_
              refine M_l5 (pc := 89) C dX1_teach_89 (by assumption) ?_
              exact r_iret (pc := 90) C hR dX1_teach_90 (by decide) (by decide) (absurd c55 c39)
            · refine r_aload_n (pc := 58) C dX1_teach_58 rfl ?_
              refine M_g10 (pc := 59) C dX1_teach_59 ?_
              refine r_iload_n (pc := 62) C dX1_teach_62 rfl ?_
              refine r_dup2_11 (pc := 63) C dX1_teach_63 rfl rfl ?_
              refine M_l10 (pc := 64) C dX1_teach_64 (by assumption) ?_
              refine r_iconst (pc := 65) (1) C dX1_teach_65 (by decide) ?_
              refine r_iload_n (pc := 66) C dX1_teach_66 rfl ?_
              refine r_ishl (pc := 67) C dX1_teach_67 ?_
              refine r_ior (pc := 68) C dX1_teach_68 ?_
              refine M_s10 (pc := 69) C dX1_teach_69 (by assumption) ?_
              refine r_goto (pc := 70) 79 C dX1_teach_70 (by decide) ?_
              refine r_aload_n (pc := 79) C dX1_teach_79 rfl ?_
              refine M_g5 (pc := 80) C dX1_teach_80 ?_
              refine r_aload_n (pc := 83) C dX1_teach_83 rfl ?_
              refine M_g9 (pc := 84) C dX1_teach_84 ?_
              refine r_iload_n (pc := 87) C dX1_teach_87 rfl ?_
              refine M_l9 (pc := 88) C dX1_teach_88 (by assumption) ?_
              refine M_l5 (pc := 89) C dX1_teach_89 (by assumption) ?_
              exact r_iret (pc := 90) C hR dX1_teach_90 (by decide) (by decide) ⟨by (rw [m_teach, if_neg c5, if_neg c13, if_pos c29, if_neg c39, if_neg c48, m_teachS, m_taught, if_neg c39] <;> rfl), by (rw [m_teach, if_neg c5, if_neg c13, if_pos c29, if_neg c39, if_neg c48, m_teachS, m_taught, if_neg c39] <;> rfl)⟩
          · refine r_bipush (pc := 51) (-103) C dX1_teach_51 (by decide) ?_
            exact r_iret (pc := 53) C hR dX1_teach_53 (by decide) (by decide) ⟨by (rw [m_teach, if_neg c5, if_neg c13, if_pos c29, if_neg c39, if_pos c48] <;> rfl), by (rw [m_teach, if_neg c5, if_neg c13, if_pos c29, if_neg c39, if_pos c48] <;> rfl)⟩
    · refine r_bipush (pc := 16) (-101) C dX1_teach_16 (by decide) ?_
      exact r_iret (pc := 18) C hR dX1_teach_18 (by decide) (by decide) ⟨by (rw [m_teach, if_neg c5, if_pos c13] <;> rfl), by (rw [m_teach, if_neg c5, if_pos c13] <;> rfl)⟩

