
set_option maxRecDepth 100000
theorem lp_in {v : Int32} {n i : Nat} (h : Rg v n) (hn : n < 2 ^ 31) (hi : i < v.toNatClampNeg) : ¬ v ≤ nI i := by
  rw [h.1]
  have := h.2
  exact nI_ge hi (by omega)
theorem lp_out {v : Int32} {n : Nat} (h : Rg v n) (hn : n < 2 ^ 31) : v ≤ nI v.toNatClampNeg := by
  rw [← h.1]
  exact Int32.le_refl _
def clampTo (hi v : Int32) : Int32 := if 0 < (if v < hi then v else hi) then (if v < hi then v else hi) else 0
def tenthsF (kd : Nat) (wit hard f : Int32) : Int32 := clampTo 10 (wit + feels kd f - hard)
def fondNext (limit fond stripes : Int32) : Int32 := clampTo 9 (if stripes ≤ limit then fond + 1 else fond - 2)
def fix (p boy : Int32) : Nat := (3 * p + boy).toNatClampNeg
theorem vin9 {u : Nat} {b : Int32} (hu : u < 3) (hb : Rg b 2) : vp_in (3 * nI u + b) 9 := by
  rw [hb.1]
  have h2 := hb.2
  generalize b.toNatClampNeg = q at h2
  rw [show (3 : Int32) = nI 3 from rfl, pk_mul, nI_add]
  exact vp_in_nI (by omega) (by decide)
def IX (S : StX) : Prop := Rg (S.1 0) 5 ∧ (Rg (S.1 7) 3 ∧ (S.1 7).toNatClampNeg ≤ xnp S ∧ xnp S ≤ 3) ∧ Rg (S.1 10) 18 ∧ Rg (S.1 21) 6 ∧ (∀ p, p < xnp S → xpk S p < 5 ∧ xpf S p 0 = nI p ∧ Rg (xpf S p 1) 9 ∧ Rg (xpf S p 2) 2 ∧ Rg (xpf S p 3) 31 ∧ Rg (xpf S p 4) 2 ∧ Rg (xpf S p 5) 31) ∧ (∀ j, j < 9 → Rg (xar S 8 j) 9 ∧ Rg (xar S 26 j) 9) ∧ (∀ j, j < 5 → Rg (xar S 3 j) 9 ∧ Rg (xar S 4 j) 5) ∧ (∀ j, j < 6 → Rg (xar S 19 j) 4 ∧ Rg (xar S 29 j) 4 ∧ (xar S 20 j = 0 ∨ xar S 20 j = 1) ∧ (xar S 30 j = 0 ∨ xar S 30 j = 1)) ∧ Rg (S.1 31) 6 ∧ (Rg (S.1 32) 3 ∧ (S.1 32).toNatClampNeg ≤ xnp S)
theorem IX.les {S : StX} (h : IX S) : Rg (S.1 0) 5 := h.1
theorem IX.many {S : StX} (h : IX S) : Rg (S.1 7) 3 := h.2.1.1
theorem IX.mnp {S : StX} (h : IX S) : (S.1 7).toNatClampNeg ≤ xnp S := h.2.1.2.1
theorem IX.np {S : StX} (h : IX S) : xnp S ≤ 3 := h.2.1.2.2
theorem IX.page {S : StX} (h : IX S) : Rg (S.1 10) 18 := h.2.2.1
theorem IX.heard {S : StX} (h : IX S) : Rg (S.1 21) 6 := h.2.2.2.1
theorem IX.k5 {S : StX} (h : IX S) {p : Nat} (hp : p < xnp S) : xpk S p < 5 := (h.2.2.2.2.1 p hp).1
theorem IX.num {S : StX} (h : IX S) {p : Nat} (hp : p < xnp S) : xpf S p 0 = nI p := (h.2.2.2.2.1 p hp).2.1
theorem IX.wit {S : StX} (h : IX S) {p : Nat} (hp : p < xnp S) : Rg (xpf S p 1) 9 := (h.2.2.2.2.1 p hp).2.2.1
theorem IX.boy {S : StX} (h : IX S) {p : Nat} (hp : p < xnp S) : Rg (xpf S p 2) 2 := (h.2.2.2.2.1 p hp).2.2.2.1
theorem IX.lrn {S : StX} (h : IX S) {p : Nat} (hp : p < xnp S) : Rg (xpf S p 3) 31 := (h.2.2.2.2.1 p hp).2.2.2.2.1
theorem IX.hard {S : StX} (h : IX S) {j : Nat} (hj : j < 5) : Rg (xar S 3 j) 9 := (h.2.2.2.2.2.2.1 j hj).1
theorem IX.blow {S : StX} (h : IX S) {j : Nat} (hj : j < 5) : Rg (xar S 4 j) 5 := (h.2.2.2.2.2.2.1 j hj).2
theorem IX.heL {S : StX} (h : IX S) {j : Nat} (hj : j < 6) : Rg (xar S 19 j) 4 := (h.2.2.2.2.2.2.2.1 j hj).1
/-- a prince by a number that isPrince takes -/
theorem IX.pr {S : StX} (h : IX S) {p : Int32} (hp : ¬ x_isPrince S p = 0) : p = nI p.toNatClampNeg ∧ p.toNatClampNeg < xnp S ∧ p.toNatClampNeg < 3 := by
  obtain ⟨h1, h2⟩ := jin_cnt h.many (by decide) hp
  have := h.mnp
  have := h.np
  exact ⟨h1, by omega, by omega⟩
theorem IX.ls {S : StX} (h : IX S) {l : Int32} (hl : ¬ x_isLesson S l = 0) : vp_in l 5 := by
  obtain ⟨h1, h2⟩ := jin_cnt h.les (by decide) hl
  have := h.les.2
  rw [h1]
  exact vp_in_nI (by omega) (by decide)
theorem boy_in {b : Int32} (h : ¬ jin b 0 2 = 0) : Rg b 2 := by
  obtain ⟨h1, h2⟩ := jin_ne0.mp h
  obtain ⟨j, hj, rfl⟩ := nI_of2 (M := 2) (n := 2) rfl (Int32.not_lt.mpr h1) h2
  exact Rg.of hj (by decide)
def x_who (S : StX) (l : Int32) (i : Nat) (bits : Int32) : Int32 := bits ||| (if jhas (xpf S i 3) l = 0 then 0 else (1 : Int32) <<< (nI i &&& 31))
def x_whoLearnt (S : StX) (l : Int32) : Int32 := nf (x_who S l) (S.1 7).toNatClampNeg 0
def x_tellLesson (S : StX) (l what : Int32) : Int32 := if what = 0 then xar S 3 l.toNatClampNeg else if what = 1 then xar S 4 l.toNatClampNeg else if what = 2 then x_whoLearnt S l else -102
def x_lesson (S : StX) (l what : Int32) : Int32 := if x_isLesson S l = 0 then -101 else x_tellLesson S l what
def x_stripes (S : StX) (b : Int32) : Int32 := if x_isThere S = 0 then -101 else if jin b 0 2 = 0 then -101 else xar S 5 b.toNatClampNeg
def x_fondOf (S : StX) (u : Nat) : Int32 := xar S 8 (3 * nI u + xpf S u 2).toNatClampNeg
def x_tellPrince (S : StX) (u : Nat) (w : Int32) : Int32 := if jin w 10 12 = 0 then (if w = 0 then nI (xpk S u) else if w = 1 then xpf S u 1 else if w = 2 then xpf S u 2 else if w = 3 then feels (xpk S u) (x_fondOf S u) else if w = 4 then xpf S u 3 else -102) else xar S 8 (3 * nI u + w - 10).toNatClampNeg
def x_about (S : StX) (p w : Int32) : Int32 := if x_isPrince S p = 0 then -101 else x_tellPrince S p.toNatClampNeg w
def x_give (S : StX) (p b : Int32) : Int32 × StX := if x_isPrince S p = 0 then (-101, S) else if jin b 0 2 = 0 then (-101, S) else (xpf S p.toNatClampNeg 2, setXp S p.toNatClampNeg 2 b)
def x_fond (S : StX) (p b v : Int32) : Int32 × StX := if x_isPrince S p = 0 then (-101, S) else if jin b 0 2 = 0 then (-101, S) else if jin v 0 9 = 0 then (-102, S) else (xar S 8 (3 * p + b).toNatClampNeg, setXa S 8 (upd (xar S 8) (3 * p + b).toNatClampNeg v))
def x_tenthsBy (S : StX) (u : Nat) (l f : Int32) : Int32 := tenthsF (xpk S u) (xpf S u 1) (xar S 3 l.toNatClampNeg) f
def x_tenthsOf (S : StX) (u : Nat) (l : Int32) : Int32 := x_tenthsBy S u l (x_fondOf S u)
def x_tenths (S : StX) (p l : Int32) : Int32 := if x_isPrince S p = 0 then -101 else if x_isLesson S l = 0 then -101 else x_tenthsOf S p.toNatClampNeg l
def x_beat (S : StX) (u : Nat) (l : Int32) : StX := setXa S 5 (upd (xar S 5) (xpf S u 2).toNatClampNeg (xar S 5 (xpf S u 2).toNatClampNeg + xar S 4 l.toNatClampNeg))
def x_fail (S : StX) (u : Nat) (l : Int32) : StX := setXa (x_beat S u l) 8 (upd (xar S 8) (3 * nI u + xpf S u 2).toNatClampNeg (fondNext (S.1 1) (x_fondOf S u) (xar (x_beat S u l) 5 (xpf S u 2).toNatClampNeg)))
def x_taught (S : StX) (u : Nat) (l b : Int32) : StX := if b = 0 then x_fail S u l else setXp S u 3 (xpf S u 3 ||| ((1 : Int32) <<< (l &&& 31)))
theorem x_taught_pa (S : StX) (u : Nat) (l b : Int32) (q : Nat) : (x_taught S u l b).2.2.2.2.1 q = S.2.2.2.2.1 q := by unfold x_taught; split <;> rfl
theorem x_taught_np (S : StX) (u : Nat) (l b : Int32) : (x_taught S u l b).2.2.2.1 = S.2.2.2.1 := by unfold x_taught; split <;> rfl
theorem x_taught_pk (S : StX) (u : Nat) (l b : Int32) (q : Nat) : (x_taught S u l b).2.2.2.2.2.1 q = S.2.2.2.2.2.1 q := by unfold x_taught; split <;> rfl
theorem x_taught_boy (S : StX) (u : Nat) (l b : Int32) (q : Nat) : (x_taught S u l b).2.2.2.2.2.2 q 2 = S.2.2.2.2.2.2 q 2 := by
  unfold x_taught
  split
  · rfl
  · simp only [setXp, va_up]
    by_cases h : q = u <;> simp [h, va_up]
def x_teachS (S : StX) (u : Nat) (l b : Int32) : Int32 × StX := (xar (x_taught S u l b) 5 (xpf (x_taught S u l b) u 2).toNatClampNeg, x_taught S u l b)
def x_teach (S : StX) (p l b : Int32) : Int32 × StX := if x_isPrince S p = 0 then (-101, S) else if x_isLesson S l = 0 then (-101, S) else if jhas (xpf S p.toNatClampNeg 3) l = 0 then (if b = 0 then (if x_tenthsOf S p.toNatClampNeg l = 10 then (-103, S) else x_teachS S p.toNatClampNeg l b) else (if x_tenthsOf S p.toNatClampNeg l = 0 then (-103, S) else x_teachS S p.toNatClampNeg l b)) else (-103, S)

set_option maxHeartbeats 4000000 in
theorem cX_whoLearnt {G : Gx} (B : Base G) (a : Nat → Nat) (S : StX) (l : Int32) (hI : IX S) : Ci G yX0_whoLearnt cX0_whoLearnt 4 .int (rmD 1) (wX G a) S [.ref (a 0), .int l] (fun r S' => r = x_whoLearnt S l ∧ S' = S) := by
  refine Ci.of B [some (.ref (a 0)), some (.int l), none, none] (by decide) rfl (Nat.le_of_ble_eq_true rfl) (fun E C hR => ?_)
  have C : CxOk E RX0 cX0_whoLearnt 4 G (rmD 1) := C
  refine r_iconst (pc := 0) (0) C dX0_whoLearnt_0 (by decide) ?_
  refine r_istore_n (pc := 1) C dX0_whoLearnt_1 (by decide) ?_
  refine r_iconst (pc := 2) (0) C dX0_whoLearnt_2 (by decide) ?_
  refine r_istore_n (pc := 3) C dX0_whoLearnt_3 (by decide) ?_
  refine V_for (P := fun i bits => V E 4 0 0 (wX G a S) 4 [some (.ref (a 0)), some (.int l), some (.int bits), some (.int (nI i))] []) (x_who S l) 0 (S.1 7).toNatClampNeg (fun i hi K4 => ?_) ?_
  · have hu : i < S.2.2.2.1 := Nat.lt_of_lt_of_le hi hI.mnp
    have hu3 : i < 3 := Nat.lt_of_lt_of_le hu hI.np
    have hk5 := hI.k5 hu
    refine r_iload_n (pc := 4) C dX0_whoLearnt_4 rfl ?_
    refine r_aload_n (pc := 5) C dX0_whoLearnt_5 rfl ?_
    refine X_g7 (pc := 6) C dX0_whoLearnt_6 ?_
    refine r_icmp_ge (pc := 9) 44 C dX0_whoLearnt_9 (by decide) (fun c9 => ?_) (fun c9 => ?_)
    · exact absurd c9 (lp_in hI.many (by decide) hi)
    · refine r_iload_n (pc := 12) C dX0_whoLearnt_12 rfl ?_
      refine r_aload_n (pc := 13) C dX0_whoLearnt_13 rfl ?_
      refine X_g6 (pc := 14) C dX0_whoLearnt_14 ?_
      refine r_iload_n (pc := 17) C dX0_whoLearnt_17 rfl ?_
      refine X_l6 (pc := 18) C dX0_whoLearnt_18 rfl hu hu3 ?_
      refine P_g3 (pc := 19) C dX0_whoLearnt_19 (by assumption) (by assumption) ?_
      refine r_iload_n (pc := 22) C dX0_whoLearnt_22 rfl ?_
      refine S_cQi (pc := 23) C (cX_has B _ _) q254 mX0_has rfl dX0_whoLearnt_23 (by decide) (Nat.le_of_ble_eq_true rfl) ?_
      refine r_if_eq (pc := 26) 35 C dX0_whoLearnt_26 (by decide) (fun c26 => ?_) (fun c26 => ?_)
      · refine r_iconst (pc := 35) (0) C dX0_whoLearnt_35 (by decide) ?_
        refine r_ior (pc := 36) C dX0_whoLearnt_36 ?_
        refine r_istore_n (pc := 37) C dX0_whoLearnt_37 (by decide) ?_
        refine r_iinc (pc := 38) _ C dX0_whoLearnt_38 rfl (nI_1 i) (by decide) ?_
        refine r_goto (pc := 41) 4 C dX0_whoLearnt_41 (by decide) ?_
        simp only [nf, x_who, c9, c26, ↓reduceIte] at K4
        exact K4
      · refine r_iconst (pc := 29) (1) C dX0_whoLearnt_29 (by decide) ?_
        refine r_iload_n (pc := 30) C dX0_whoLearnt_30 rfl ?_
        refine r_ishl (pc := 31) C dX0_whoLearnt_31 ?_
        refine r_goto (pc := 32) 36 C dX0_whoLearnt_32 (by decide) ?_
        refine r_ior (pc := 36) C dX0_whoLearnt_36 ?_
        refine r_istore_n (pc := 37) C dX0_whoLearnt_37 (by decide) ?_
        refine r_iinc (pc := 38) _ C dX0_whoLearnt_38 rfl (nI_1 i) (by decide) ?_
        refine r_goto (pc := 41) 4 C dX0_whoLearnt_41 (by decide) ?_
        simp only [nf, x_who, c9, c26, ↓reduceIte] at K4
        exact K4
  · refine r_iload_n (pc := 4) C dX0_whoLearnt_4 rfl ?_
    refine r_aload_n (pc := 5) C dX0_whoLearnt_5 rfl ?_
    refine X_g7 (pc := 6) C dX0_whoLearnt_6 ?_
    refine r_icmp_ge (pc := 9) 44 C dX0_whoLearnt_9 (by decide) (fun c9 => ?_) (fun c9 => ?_)
    · refine r_iload_n (pc := 44) C dX0_whoLearnt_44 rfl ?_
      exact r_iret (pc := 45) C hR dX0_whoLearnt_45 (by decide) (by decide) ⟨rfl, rfl⟩
    · exact absurd (lp_out hI.many (by decide)) c9

set_option maxHeartbeats 4000000 in
theorem cX_tellLesson {G : Gx} (B : Base G) (a : Nat → Nat) (S : StX) (l what : Int32) (hI : IX S) (hl : vp_in l 5) : Ci G yX0_tellLesson cX0_tellLesson 3 .int (rmD 2) (wX G a) S [.ref (a 0), .int l, .int what] (fun r S' => r = x_tellLesson S l what ∧ S' = S) := by
  refine Ci.of B [some (.ref (a 0)), some (.int l), some (.int what)] (by decide) rfl (Nat.le_of_ble_eq_true rfl) (fun E C hR => ?_)
  have C : CxOk E RX0 cX0_tellLesson 3 G (rmD 2) := C
  refine r_iload_n (pc := 0) C dX0_tellLesson_0 rfl ?_
  refine r_if_ne (pc := 1) 13 C dX0_tellLesson_1 (by decide) (fun c1 => ?_) (fun c1 => ?_)
  · refine r_iload_n (pc := 13) C dX0_tellLesson_13 rfl ?_
    refine r_iconst (pc := 14) (1) C dX0_tellLesson_14 (by decide) ?_
    refine r_icmp_ne (pc := 15) 27 C dX0_tellLesson_15 (by decide) (fun c15 => ?_) (fun c15 => ?_)
    · refine r_iload_n (pc := 27) C dX0_tellLesson_27 rfl ?_
      refine r_iconst (pc := 28) (2) C dX0_tellLesson_28 (by decide) ?_
      refine r_icmp_ne (pc := 29) 40 C dX0_tellLesson_29 (by decide) (fun c29 => ?_) (fun c29 => ?_)
      · refine r_bipush (pc := 40) (-102) C dX0_tellLesson_40 (by decide) ?_
        exact r_iret (pc := 42) C hR dX0_tellLesson_42 (by decide) (by decide) (by refine ⟨?_, ?_⟩ <;> (try simp only [x_tellLesson, c1, c15, c29, ↓reduceIte]) <;> (try rfl))
      · refine r_aload_n (pc := 32) C dX0_tellLesson_32 rfl ?_
        refine r_iload_n (pc := 33) C dX0_tellLesson_33 rfl ?_
        refine X_cQi (pc := 34) C (cX_whoLearnt B a _ _ hI) q250 mX0_whoLearnt rfl dX0_tellLesson_34 (by decide) (Nat.le_of_ble_eq_true rfl) ?_
        refine r_goto (pc := 37) 42 C dX0_tellLesson_37 (by decide) ?_
        exact r_iret (pc := 42) C hR dX0_tellLesson_42 (by decide) (by decide) (by refine ⟨?_, ?_⟩ <;> (try simp only [x_tellLesson, c1, c15, c29, ↓reduceIte]) <;> (try rfl))
    · refine r_aload_n (pc := 18) C dX0_tellLesson_18 rfl ?_
      refine X_g4 (pc := 19) C dX0_tellLesson_19 ?_
      refine r_iload_n (pc := 22) C dX0_tellLesson_22 rfl ?_
      refine X_l4 (pc := 23) C dX0_tellLesson_23 (by assumption) ?_
      refine r_goto (pc := 24) 42 C dX0_tellLesson_24 (by decide) ?_
      exact r_iret (pc := 42) C hR dX0_tellLesson_42 (by decide) (by decide) (by refine ⟨?_, ?_⟩ <;> (try simp only [x_tellLesson, c1, c15, ↓reduceIte]) <;> (try rfl))
  · refine r_aload_n (pc := 4) C dX0_tellLesson_4 rfl ?_
    refine X_g3 (pc := 5) C dX0_tellLesson_5 ?_
    refine r_iload_n (pc := 8) C dX0_tellLesson_8 rfl ?_
    refine X_l3 (pc := 9) C dX0_tellLesson_9 (by assumption) ?_
    refine r_goto (pc := 10) 42 C dX0_tellLesson_10 (by decide) ?_
    exact r_iret (pc := 42) C hR dX0_tellLesson_42 (by decide) (by decide) (by refine ⟨?_, ?_⟩ <;> (try simp only [x_tellLesson, c1, ↓reduceIte]) <;> (try rfl))

set_option maxHeartbeats 4000000 in
theorem cX_lesson {G : Gx} (B : Base G) (a : Nat → Nat) (S : StX) (l what : Int32) (hI : IX S) : Ci G yX0_lesson cX0_lesson 3 .int (rmD 3) (wX G a) S [.ref (a 0), .int l, .int what] (fun r S' => r = x_lesson S l what ∧ S' = S) := by
  refine Ci.of B [some (.ref (a 0)), some (.int l), some (.int what)] (by decide) rfl (Nat.le_of_ble_eq_true rfl) (fun E C hR => ?_)
  have C : CxOk E RX0 cX0_lesson 3 G (rmD 3) := C
  refine r_aload_n (pc := 0) C dX0_lesson_0 rfl ?_
  refine r_iload_n (pc := 1) C dX0_lesson_1 rfl ?_
  refine X_cQi (pc := 2) C (cX_isLesson B a _ _) q242 mX0_isLesson rfl dX0_lesson_2 (by decide) (Nat.le_of_ble_eq_true rfl) ?_
  refine r_if_eq (pc := 5) 17 C dX0_lesson_5 (by decide) (fun c5 => ?_) (fun c5 => ?_)
  · refine r_bipush (pc := 17) (-101) C dX0_lesson_17 (by decide) ?_
    exact r_iret (pc := 19) C hR dX0_lesson_19 (by decide) (by decide) (by refine ⟨?_, ?_⟩ <;> (try simp only [x_lesson, c5, ↓reduceIte]) <;> (try rfl))
  · have hl := hI.ls c5
    refine r_aload_n (pc := 8) C dX0_lesson_8 rfl ?_
    refine r_iload_n (pc := 9) C dX0_lesson_9 rfl ?_
    refine r_iload_n (pc := 10) C dX0_lesson_10 rfl ?_
    refine X_cQi (pc := 11) C (cX_tellLesson B a _ _ _ hI (by assumption)) q246 mX0_tellLesson rfl dX0_lesson_11 (by decide) (Nat.le_of_ble_eq_true rfl) ?_
    refine r_goto (pc := 14) 19 C dX0_lesson_14 (by decide) ?_
    exact r_iret (pc := 19) C hR dX0_lesson_19 (by decide) (by decide) (by refine ⟨?_, ?_⟩ <;> (try simp only [x_lesson, c5, ↓reduceIte]) <;> (try rfl))

set_option maxHeartbeats 4000000 in
theorem cX_stripes {G : Gx} (B : Base G) (a : Nat → Nat) (S : StX) (b : Int32) : Ci G yX0_stripes cX0_stripes 2 .int (rmD 2) (wX G a) S [.ref (a 0), .int b] (fun r S' => r = x_stripes S b ∧ S' = S) := by
  refine Ci.of B [some (.ref (a 0)), some (.int b)] (by decide) rfl (Nat.le_of_ble_eq_true rfl) (fun E C hR => ?_)
  have C : CxOk E RX0 cX0_stripes 2 G (rmD 2) := C
  refine r_aload_n (pc := 0) C dX0_stripes_0 rfl ?_
  refine X_cQi (pc := 1) C (cX_isThere B a _) q261 mX0_isThere rfl dX0_stripes_1 (by decide) (Nat.le_of_ble_eq_true rfl) ?_
  refine r_if_eq (pc := 4) 23 C dX0_stripes_4 (by decide) (fun c4 => ?_) (fun c4 => ?_)
  · refine r_bipush (pc := 23) (-101) C dX0_stripes_23 (by decide) ?_
    exact r_iret (pc := 25) C hR dX0_stripes_25 (by decide) (by decide) (by refine ⟨?_, ?_⟩ <;> (try simp only [x_stripes, c4, ↓reduceIte]) <;> (try rfl))
  · refine r_iload_n (pc := 7) C dX0_stripes_7 rfl ?_
    refine S_cQi (pc := 8) C (cX_isBoy B _) q265 mX0_isBoy rfl dX0_stripes_8 (by decide) (Nat.le_of_ble_eq_true rfl) ?_
    refine r_if_eq (pc := 11) 23 C dX0_stripes_11 (by decide) (fun c11 => ?_) (fun c11 => ?_)
    · refine r_bipush (pc := 23) (-101) C dX0_stripes_23 (by decide) ?_
      exact r_iret (pc := 25) C hR dX0_stripes_25 (by decide) (by decide) (by refine ⟨?_, ?_⟩ <;> (try simp only [x_stripes, c4, c11, ↓reduceIte]) <;> (try rfl))
    · refine r_aload_n (pc := 14) C dX0_stripes_14 rfl ?_
      refine X_g5 (pc := 15) C dX0_stripes_15 ?_
      refine r_iload_n (pc := 18) C dX0_stripes_18 rfl ?_
      refine X_l5 (pc := 19) C dX0_stripes_19 ((boy_in c11).in (by decide) (by decide)) ?_
      refine r_goto (pc := 20) 25 C dX0_stripes_20 (by decide) ?_
      exact r_iret (pc := 25) C hR dX0_stripes_25 (by decide) (by decide) (by refine ⟨?_, ?_⟩ <;> (try simp only [x_stripes, c4, c11, ↓reduceIte]) <;> (try rfl))

set_option maxHeartbeats 4000000 in
theorem cX_fondOf {G : Gx} (B : Base G) (a : Nat → Nat) (S : StX) (u : Nat)  (hI : IX S) (hu : u < xnp S) : Ci G yX0_fondOf cX0_fondOf 2 .int (rmD 0) (wX G a) S [.ref (a 0), .ref (xpa S u)] (fun r S' => r = x_fondOf S u ∧ S' = S) := by
  refine Ci.of B [some (.ref (a 0)), some (.ref (xpa S u))] (by decide) rfl (Nat.le_of_ble_eq_true rfl) (fun E C hR => ?_)
  have C : CxOk E RX0 cX0_fondOf 2 G (rmD 0) := C
  have hu3 : u < 3 := Nat.lt_of_lt_of_le hu hI.np
  have hk5 := hI.k5 hu
  have e0 := hI.num hu
  have hb := hI.boy hu
  refine r_aload_n (pc := 0) C dX0_fondOf_0 rfl ?_
  refine X_g8 (pc := 1) C dX0_fondOf_1 ?_
  refine r_iconst (pc := 4) (3) C dX0_fondOf_4 (by decide) ?_
  refine r_aload_n (pc := 5) C dX0_fondOf_5 rfl ?_
  refine P_g0n (pc := 6) C dX0_fondOf_6 (by assumption) (by assumption) (by assumption) ?_
  refine r_imul (pc := 9) C dX0_fondOf_9 ?_
  refine r_aload_n (pc := 10) C dX0_fondOf_10 rfl ?_
  refine P_g2 (pc := 11) C dX0_fondOf_11 (by assumption) (by assumption) ?_
  refine r_iadd (pc := 14) C dX0_fondOf_14 ?_
  refine X_l8 (pc := 15) C dX0_fondOf_15 (vin9 hu3 hb) ?_
  exact r_iret (pc := 16) C hR dX0_fondOf_16 (by decide) (by decide) ⟨rfl, rfl⟩

theorem sw5 (w : Int32) : w = 0 ∨ w = 1 ∨ w = 2 ∨ w = 3 ∨ w = 4 ∨ ((w.toInt < 0 ∨ 4 < w.toInt) ∧ ¬ w = 0 ∧ ¬ w = 1 ∧ ¬ w = 2 ∧ ¬ w = 3 ∧ ¬ w = 4) := by
  have e : ∀ v : Int32, (w = v ↔ w.toInt = v.toInt) := fun v => Int32.toInt_inj.symm
  simp only [e]
  have h0 : (0 : Int32).toInt = 0 := rfl
  have h1 : (1 : Int32).toInt = 1 := rfl
  have h2 : (2 : Int32).toInt = 2 := rfl
  have h3 : (3 : Int32).toInt = 3 := rfl
  have h4 : (4 : Int32).toInt = 4 := rfl
  rw [h0, h1, h2, h3, h4]
  omega
theorem vin912 {u : Nat} {w : Int32} (hu : u < 3) (hw : ¬ jin w 10 12 = 0) : vp_in (3 * nI u + w - 10) 9 := by
  obtain ⟨h1, h2⟩ := jin_ne0.mp hw
  obtain ⟨j, hj, rfl⟩ := nI_of2 (x := w) (M := 12) (n := 12) rfl (Int32.not_lt.mpr (Int32.le_trans (by decide) h1)) h2
  have h3 : 10 ≤ j := (nI_leI (a := 10) (by decide) (by omega)).mp h1
  rw [show (3 : Int32) = nI 3 from rfl, pk_mul, nI_add, show (10 : Int32) = nI 10 from rfl, pk_sub (by omega)]
  exact vp_in_nI (by omega) (by decide)
set_option maxHeartbeats 4000000 in
theorem cX_tellPrince {G : Gx} (B : Base G) (a : Nat → Nat) (S : StX) (u : Nat) (w : Int32) (hI : IX S) (hu : u < xnp S) : Ci G yX0_tellPrince cX0_tellPrince 3 .int (rmD 3) (wX G a) S [.ref (a 0), .ref (xpa S u), .int w] (fun r S' => r = x_tellPrince S u w ∧ S' = S) := by
  refine Ci.of B [some (.ref (a 0)), some (.ref (xpa S u)), some (.int w)] (by decide) rfl (Nat.le_of_ble_eq_true rfl) (fun E C hR => ?_)
  have C : CxOk E RX0 cX0_tellPrince 3 G (rmD 3) := C
  have hu3 : u < 3 := Nat.lt_of_lt_of_le hu hI.np
  have hk5 := hI.k5 hu
  have e0 := hI.num hu
  have hb := hI.boy hu
  refine r_iload_n (pc := 0) C dX0_tellPrince_0 rfl ?_
  refine r_i2l (pc := 1) C dX0_tellPrince_1 ?_
  refine r_ldc2 (pc := 2) C dX0_tellPrince_2 q374 ?_
  refine r_ldc2 (pc := 5) C dX0_tellPrince_5 q375 ?_
  refine S_cQi (pc := 8) C (cX_isIn32 B _ 10 12) q211 mX0_isIn rfl dX0_tellPrince_8 (by decide) (Nat.le_of_ble_eq_true rfl) ?_
  refine r_if_eq (pc := 11) 31 C dX0_tellPrince_11 (by decide) (fun c11 => ?_) (fun c11 => ?_)
  · refine r_iload_n (pc := 31) C dX0_tellPrince_31 rfl ?_
    rcases sw5 w with rfl | rfl | rfl | rfl | rfl | hw
    · refine r_tblIn (pc := 32) (off := 36) 68 C dX0_tellPrince_32 (by decide) (by decide) rfl (by decide) ?_
      refine r_aload_n (pc := 68) C dX0_tellPrince_68 rfl ?_
      refine P_kind (pc := 69) C B q376 dX0_tellPrince_69 (by assumption) (by assumption) (by decide) (Nat.le_of_ble_eq_true rfl) ?_
      exact r_iret (pc := 72) C hR dX0_tellPrince_72 (by decide) (by decide) ⟨by simp only [x_tellPrince, c11, ↓reduceIte] <;> rfl, rfl⟩
    · refine r_tblIn (pc := 32) (off := 41) 73 C dX0_tellPrince_32 (by decide) (by decide) rfl (by decide) ?_
      refine r_aload_n (pc := 73) C dX0_tellPrince_73 rfl ?_
      refine P_g1 (pc := 74) C dX0_tellPrince_74 (by assumption) (by assumption) ?_
      exact r_iret (pc := 77) C hR dX0_tellPrince_77 (by decide) (by decide) ⟨by simp only [x_tellPrince, c11, ↓reduceIte] <;> rfl, rfl⟩
    · refine r_tblIn (pc := 32) (off := 46) 78 C dX0_tellPrince_32 (by decide) (by decide) rfl (by decide) ?_
      refine r_aload_n (pc := 78) C dX0_tellPrince_78 rfl ?_
      refine P_g2 (pc := 79) C dX0_tellPrince_79 (by assumption) (by assumption) ?_
      exact r_iret (pc := 82) C hR dX0_tellPrince_82 (by decide) (by decide) ⟨by simp only [x_tellPrince, c11, ↓reduceIte] <;> rfl, rfl⟩
    · refine r_tblIn (pc := 32) (off := 51) 83 C dX0_tellPrince_32 (by decide) (by decide) rfl (by decide) ?_
      refine r_aload_n (pc := 83) C dX0_tellPrince_83 rfl ?_
      refine r_aload_n (pc := 84) C dX0_tellPrince_84 rfl ?_
      refine r_aload_n (pc := 85) C dX0_tellPrince_85 rfl ?_
      refine X_cQi (pc := 86) C (cX_fondOf B a _ _ (by assumption) (by assumption)) q394 mX0_fondOf rfl dX0_tellPrince_86 (by decide) (Nat.le_of_ble_eq_true rfl) ?_
      refine P_feelsAll (pc := 89) C B q398 dX0_tellPrince_89 (by assumption) (by assumption) (by decide) (Nat.le_of_ble_eq_true rfl) ?_
      exact r_iret (pc := 92) C hR dX0_tellPrince_92 (by decide) (by decide) ⟨by simp only [x_tellPrince, c11, ↓reduceIte] <;> rfl, rfl⟩
    · refine r_tblIn (pc := 32) (off := 61) 93 C dX0_tellPrince_32 (by decide) (by decide) rfl (by decide) ?_
      refine r_aload_n (pc := 93) C dX0_tellPrince_93 rfl ?_
      refine P_g3 (pc := 94) C dX0_tellPrince_94 (by assumption) (by assumption) ?_
      exact r_iret (pc := 97) C hR dX0_tellPrince_97 (by decide) (by decide) ⟨by simp only [x_tellPrince, c11, ↓reduceIte] <;> rfl, rfl⟩
    · refine r_tblOut (pc := 32) 98 C dX0_tellPrince_32 hw.1 (by decide) ?_
      refine r_bipush (pc := 98) (-102) C dX0_tellPrince_98 (by decide) ?_
      exact r_iret (pc := 100) C hR dX0_tellPrince_100 (by decide) (by decide) (by refine ⟨?_, ?_⟩ <;> (try simp only [x_tellPrince, hw, c11, ↓reduceIte]) <;> (try rfl))
  · refine r_aload_n (pc := 14) C dX0_tellPrince_14 rfl ?_
    refine X_g8 (pc := 15) C dX0_tellPrince_15 ?_
    refine r_iconst (pc := 18) (3) C dX0_tellPrince_18 (by decide) ?_
    refine r_aload_n (pc := 19) C dX0_tellPrince_19 rfl ?_
    refine P_g0n (pc := 20) C dX0_tellPrince_20 (by assumption) (by assumption) (by assumption) ?_
    refine r_imul (pc := 23) C dX0_tellPrince_23 ?_
    refine r_iload_n (pc := 24) C dX0_tellPrince_24 rfl ?_
    refine r_iadd (pc := 25) C dX0_tellPrince_25 ?_
    refine r_bipush (pc := 26) (10) C dX0_tellPrince_26 (by decide) ?_
    refine r_isub (pc := 28) C dX0_tellPrince_28 ?_
    refine X_l8 (pc := 29) C dX0_tellPrince_29 (vin912 hu3 c11) ?_
    exact r_iret (pc := 30) C hR dX0_tellPrince_30 (by decide) (by decide) ⟨by simp only [x_tellPrince, c11, ↓reduceIte] <;> rfl, rfl⟩

set_option maxHeartbeats 4000000 in
theorem cX_about {G : Gx} (B : Base G) (a : Nat → Nat) (S : StX) (p w : Int32) (hI : IX S) : Ci G yX0_about cX0_about 3 .int (rmD 4) (wX G a) S [.ref (a 0), .int p, .int w] (fun r S' => r = x_about S p w ∧ S' = S) := by
  refine Ci.of B [some (.ref (a 0)), some (.int p), some (.int w)] (by decide) rfl (Nat.le_of_ble_eq_true rfl) (fun E C hR => ?_)
  have C : CxOk E RX0 cX0_about 3 G (rmD 4) := C
  refine r_aload_n (pc := 0) C dX0_about_0 rfl ?_
  refine r_iload_n (pc := 1) C dX0_about_1 rfl ?_
  refine X_cQi (pc := 2) C (cX_isPrince B a _ _) q366 mX0_isPrince rfl dX0_about_2 (by decide) (Nat.le_of_ble_eq_true rfl) ?_
  refine r_if_eq (pc := 5) 22 C dX0_about_5 (by decide) (fun c5 => ?_) (fun c5 => ?_)
  · refine r_bipush (pc := 22) (-101) C dX0_about_22 (by decide) ?_
    exact r_iret (pc := 24) C hR dX0_about_24 (by decide) (by decide) (by refine ⟨?_, ?_⟩ <;> (try simp only [x_about, c5, ↓reduceIte]) <;> (try rfl))
  · obtain ⟨ep, hu, hu3⟩ := hI.pr c5
    have hk5 := hI.k5 hu
    refine r_aload_n (pc := 8) C dX0_about_8 rfl ?_
    refine r_aload_n (pc := 9) C dX0_about_9 rfl ?_
    refine X_g6 (pc := 10) C dX0_about_10 ?_
    refine r_iload_n (pc := 13) C dX0_about_13 rfl ?_
    refine X_l6 (pc := 14) C dX0_about_14 ep hu hu3 ?_
    refine r_iload_n (pc := 15) C dX0_about_15 rfl ?_
    refine X_cQi (pc := 16) C (cX_tellPrince B a _ _ _ (by assumption) (by assumption)) q370 mX0_tellPrince rfl dX0_about_16 (by decide) (Nat.le_of_ble_eq_true rfl) ?_
    refine r_goto (pc := 19) 24 C dX0_about_19 (by decide) ?_
    exact r_iret (pc := 24) C hR dX0_about_24 (by decide) (by decide) (by refine ⟨?_, ?_⟩ <;> (try simp only [x_about, c5, ↓reduceIte]) <;> (try rfl))

set_option maxHeartbeats 4000000 in
theorem cX_give {G : Gx} (B : Base G) (a : Nat → Nat) (S : StX) (p b : Int32) (hI : IX S) : Ci G yX0_give cX0_give 4 .int (rmD 2) (wX G a) S [.ref (a 0), .int p, .int b] (fun r S' => r = (x_give S p b).1 ∧ S' = (x_give S p b).2) := by
  refine Ci.of B [some (.ref (a 0)), some (.int p), some (.int b), none] (by decide) rfl (Nat.le_of_ble_eq_true rfl) (fun E C hR => ?_)
  have C : CxOk E RX0 cX0_give 4 G (rmD 2) := C
  refine r_aload_n (pc := 0) C dX0_give_0 rfl ?_
  refine r_iload_n (pc := 1) C dX0_give_1 rfl ?_
  refine X_cQi (pc := 2) C (cX_isPrince B a _ _) q366 mX0_isPrince rfl dX0_give_2 (by decide) (Nat.le_of_ble_eq_true rfl) ?_
  refine r_if_eq (pc := 5) 15 C dX0_give_5 (by decide) (fun c5 => ?_) (fun c5 => ?_)
  · refine r_bipush (pc := 15) (-101) C dX0_give_15 (by decide) ?_
    exact r_iret (pc := 17) C hR dX0_give_17 (by decide) (by decide) (by refine ⟨?_, ?_⟩ <;> (try simp only [x_give, c5, ↓reduceIte]) <;> (try rfl))
  · obtain ⟨ep, hu, hu3⟩ := hI.pr c5
    have hk5 := hI.k5 hu
    refine r_iload_n (pc := 8) C dX0_give_8 rfl ?_
    refine S_cQi (pc := 9) C (cX_isBoy B _) q265 mX0_isBoy rfl dX0_give_9 (by decide) (Nat.le_of_ble_eq_true rfl) ?_
    refine r_if_ne (pc := 12) 18 C dX0_give_12 (by decide) (fun c12 => ?_) (fun c12 => ?_)
    · refine r_aload_n (pc := 18) C dX0_give_18 rfl ?_
      refine X_g6 (pc := 19) C dX0_give_19 ?_
      refine r_iload_n (pc := 22) C dX0_give_22 rfl ?_
      refine X_l6 (pc := 23) C dX0_give_23 ep hu hu3 ?_
      refine P_g2 (pc := 24) C dX0_give_24 (by assumption) (by assumption) ?_
      refine r_istore_n (pc := 27) C dX0_give_27 (by decide) ?_
      refine r_aload_n (pc := 28) C dX0_give_28 rfl ?_
      refine X_g6 (pc := 29) C dX0_give_29 ?_
      refine r_iload_n (pc := 32) C dX0_give_32 rfl ?_
      refine X_l6 (pc := 33) C dX0_give_33 ep hu hu3 ?_
      refine r_iload_n (pc := 34) C dX0_give_34 rfl ?_
      refine P_p2 (pc := 35) C dX0_give_35 (by assumption) (by assumption) ?_
      refine r_iload_n (pc := 38) C dX0_give_38 rfl ?_
      exact r_iret (pc := 39) C hR dX0_give_39 (by decide) (by decide) (by refine ⟨?_, ?_⟩ <;> (try simp only [x_give, c5, c12, ↓reduceIte]) <;> (try rfl))
    · refine r_bipush (pc := 15) (-101) C dX0_give_15 (by decide) ?_
      exact r_iret (pc := 17) C hR dX0_give_17 (by decide) (by decide) (by refine ⟨?_, ?_⟩ <;> (try simp only [x_give, c5, c12, ↓reduceIte]) <;> (try rfl))

set_option maxHeartbeats 4000000 in
theorem cX_fond {G : Gx} (B : Base G) (a : Nat → Nat) (S : StX) (p b v : Int32) (hI : IX S) : Ci G yX0_fond cX0_fond 5 .int (rmD 2) (wX G a) S [.ref (a 0), .int p, .int b, .int v] (fun r S' => r = (x_fond S p b v).1 ∧ S' = (x_fond S p b v).2) := by
  refine Ci.of B [some (.ref (a 0)), some (.int p), some (.int b), some (.int v), none] (by decide) rfl (Nat.le_of_ble_eq_true rfl) (fun E C hR => ?_)
  have C : CxOk E RX0 cX0_fond 5 G (rmD 2) := C
  refine r_aload_n (pc := 0) C dX0_fond_0 rfl ?_
  refine r_iload_n (pc := 1) C dX0_fond_1 rfl ?_
  refine X_cQi (pc := 2) C (cX_isPrince B a _ _) q366 mX0_isPrince rfl dX0_fond_2 (by decide) (Nat.le_of_ble_eq_true rfl) ?_
  refine r_if_eq (pc := 5) 15 C dX0_fond_5 (by decide) (fun c5 => ?_) (fun c5 => ?_)
  · refine r_bipush (pc := 15) (-101) C dX0_fond_15 (by decide) ?_
    exact r_iret (pc := 17) C hR dX0_fond_17 (by decide) (by decide) (by refine ⟨?_, ?_⟩ <;> (try simp only [x_fond, c5, ↓reduceIte]) <;> (try rfl))
  · obtain ⟨ep, hu, hu3⟩ := hI.pr c5
    have hk5 := hI.k5 hu
    refine r_iload_n (pc := 8) C dX0_fond_8 rfl ?_
    refine S_cQi (pc := 9) C (cX_isBoy B _) q265 mX0_isBoy rfl dX0_fond_9 (by decide) (Nat.le_of_ble_eq_true rfl) ?_
    refine r_if_ne (pc := 12) 18 C dX0_fond_12 (by decide) (fun c12 => ?_) (fun c12 => ?_)
    · refine r_iload_n (pc := 18) C dX0_fond_18 rfl ?_
      refine r_i2l (pc := 19) C dX0_fond_19 ?_
      refine r_lconst (pc := 20) 0 C dX0_fond_20 (by decide) ?_
      refine r_ldc2 (pc := 21) C dX0_fond_21 q274 ?_
      refine S_cQi (pc := 24) C (cX_isIn32 B _ 0 9) q211 mX0_isIn rfl dX0_fond_24 (by decide) (Nat.le_of_ble_eq_true rfl) ?_
      refine r_if_ne (pc := 27) 33 C dX0_fond_27 (by decide) (fun c27 => ?_) (fun c27 => ?_)
      · refine r_aload_n (pc := 33) C dX0_fond_33 rfl ?_
        refine X_g8 (pc := 34) C dX0_fond_34 ?_
        refine r_iconst (pc := 37) (3) C dX0_fond_37 (by decide) ?_
        refine r_iload_n (pc := 38) C dX0_fond_38 rfl ?_
        refine r_imul (pc := 39) C dX0_fond_39 ?_
        refine r_iload_n (pc := 40) C dX0_fond_40 rfl ?_
        refine r_iadd (pc := 41) C dX0_fond_41 ?_
        refine X_l8 (pc := 42) C dX0_fond_42 (by rw [ep]; exact vin9 hu3 (boy_in c12)) ?_
        refine r_istore (pc := 43) C dX0_fond_43 (by decide) ?_
        refine r_aload_n (pc := 45) C dX0_fond_45 rfl ?_
        refine X_g8 (pc := 46) C dX0_fond_46 ?_
        refine r_iconst (pc := 49) (3) C dX0_fond_49 (by decide) ?_
        refine r_iload_n (pc := 50) C dX0_fond_50 rfl ?_
        refine r_imul (pc := 51) C dX0_fond_51 ?_
        refine r_iload_n (pc := 52) C dX0_fond_52 rfl ?_
        refine r_iadd (pc := 53) C dX0_fond_53 ?_
        refine r_iload_n (pc := 54) C dX0_fond_54 rfl ?_
        refine X_s8 (pc := 55) C dX0_fond_55 (by rw [ep]; exact vin9 hu3 (boy_in c12)) ?_
        refine r_iload (pc := 56) C dX0_fond_56 rfl ?_
        exact r_iret (pc := 58) C hR dX0_fond_58 (by decide) (by decide) (by refine ⟨?_, ?_⟩ <;> (try simp only [x_fond, c5, c12, c27, ↓reduceIte]) <;> (try rfl))
      · refine r_bipush (pc := 30) (-102) C dX0_fond_30 (by decide) ?_
        exact r_iret (pc := 32) C hR dX0_fond_32 (by decide) (by decide) (by refine ⟨?_, ?_⟩ <;> (try simp only [x_fond, c5, c12, c27, ↓reduceIte]) <;> (try rfl))
    · refine r_bipush (pc := 15) (-101) C dX0_fond_15 (by decide) ?_
      exact r_iret (pc := 17) C hR dX0_fond_17 (by decide) (by decide) (by refine ⟨?_, ?_⟩ <;> (try simp only [x_fond, c5, c12, ↓reduceIte]) <;> (try rfl))

set_option maxHeartbeats 4000000 in
theorem cX_tenthsBy {G : Gx} (B : Base G) (a : Nat → Nat) (S : StX) (u : Nat) (l f : Int32) (hI : IX S) (hu : u < xnp S) (hl : vp_in l 5) : Ci G yX0_tenthsBy cX0_tenthsBy 4 .int (rmD 3) (wX G a) S [.ref (a 0), .ref (xpa S u), .int l, .int f] (fun r S' => r = x_tenthsBy S u l f ∧ S' = S) := by
  refine Ci.of B [some (.ref (a 0)), some (.ref (xpa S u)), some (.int l), some (.int f)] (by decide) rfl (Nat.le_of_ble_eq_true rfl) (fun E C hR => ?_)
  have C : CxOk E RX0 cX0_tenthsBy 4 G (rmD 3) := C
  have hu3 : u < 3 := Nat.lt_of_lt_of_le hu hI.np
  have hk5 := hI.k5 hu
  have e0 := hI.num hu
  have hb := hI.boy hu
  refine r_iconst (pc := 0) (0) C dX0_tenthsBy_0 (by decide) ?_
  refine r_bipush (pc := 1) (10) C dX0_tenthsBy_1 (by decide) ?_
  refine r_aload_n (pc := 3) C dX0_tenthsBy_3 rfl ?_
  refine P_g1 (pc := 4) C dX0_tenthsBy_4 (by assumption) (by assumption) ?_
  refine r_aload_n (pc := 7) C dX0_tenthsBy_7 rfl ?_
  refine r_iload_n (pc := 8) C dX0_tenthsBy_8 rfl ?_
  refine P_feelsAll (pc := 9) C B q398 dX0_tenthsBy_9 (by assumption) (by assumption) (by decide) (Nat.le_of_ble_eq_true rfl) ?_
  refine r_iadd (pc := 12) C dX0_tenthsBy_12 ?_
  refine r_aload_n (pc := 13) C dX0_tenthsBy_13 rfl ?_
  refine X_g3 (pc := 14) C dX0_tenthsBy_14 ?_
  refine r_iload_n (pc := 17) C dX0_tenthsBy_17 rfl ?_
  refine X_l3 (pc := 18) C dX0_tenthsBy_18 (by assumption) ?_
  refine r_isub (pc := 19) C dX0_tenthsBy_19 ?_
  refine X_mmin (pc := 20) C dX0_tenthsBy_20 (by decide) (Nat.le_of_ble_eq_true rfl) ?_
  refine X_mmax (pc := 23) C dX0_tenthsBy_23 (by decide) (Nat.le_of_ble_eq_true rfl) ?_
  exact r_iret (pc := 26) C hR dX0_tenthsBy_26 (by decide) (by decide) ⟨rfl, rfl⟩

set_option maxHeartbeats 4000000 in
theorem cX_tenthsOf {G : Gx} (B : Base G) (a : Nat → Nat) (S : StX) (u : Nat) (l : Int32) (hI : IX S) (hu : u < xnp S) (hl : vp_in l 5) : Ci G yX0_tenthsOf cX0_tenthsOf 3 .int (rmD 4) (wX G a) S [.ref (a 0), .ref (xpa S u), .int l] (fun r S' => r = x_tenthsOf S u l ∧ S' = S) := by
  refine Ci.of B [some (.ref (a 0)), some (.ref (xpa S u)), some (.int l)] (by decide) rfl (Nat.le_of_ble_eq_true rfl) (fun E C hR => ?_)
  have C : CxOk E RX0 cX0_tenthsOf 3 G (rmD 4) := C
  have hu3 : u < 3 := Nat.lt_of_lt_of_le hu hI.np
  have hk5 := hI.k5 hu
  have e0 := hI.num hu
  have hb := hI.boy hu
  refine r_aload_n (pc := 0) C dX0_tenthsOf_0 rfl ?_
  refine r_aload_n (pc := 1) C dX0_tenthsOf_1 rfl ?_
  refine r_iload_n (pc := 2) C dX0_tenthsOf_2 rfl ?_
  refine r_aload_n (pc := 3) C dX0_tenthsOf_3 rfl ?_
  refine r_aload_n (pc := 4) C dX0_tenthsOf_4 rfl ?_
  refine X_cQi (pc := 5) C (cX_fondOf B a _ _ (by assumption) (by assumption)) q394 mX0_fondOf rfl dX0_tenthsOf_5 (by decide) (Nat.le_of_ble_eq_true rfl) ?_
  refine X_cQi (pc := 8) C (cX_tenthsBy B a _ _ _ _ (by assumption) (by assumption) (by assumption)) q527 mX0_tenthsBy rfl dX0_tenthsOf_8 (by decide) (Nat.le_of_ble_eq_true rfl) ?_
  exact r_iret (pc := 11) C hR dX0_tenthsOf_11 (by decide) (by decide) ⟨rfl, rfl⟩

set_option maxHeartbeats 4000000 in
theorem cX_tenths {G : Gx} (B : Base G) (a : Nat → Nat) (S : StX) (p l : Int32) (hI : IX S) : Ci G yX0_tenths cX0_tenths 3 .int (rmD 5) (wX G a) S [.ref (a 0), .int p, .int l] (fun r S' => r = x_tenths S p l ∧ S' = S) := by
  refine Ci.of B [some (.ref (a 0)), some (.int p), some (.int l)] (by decide) rfl (Nat.le_of_ble_eq_true rfl) (fun E C hR => ?_)
  have C : CxOk E RX0 cX0_tenths 3 G (rmD 5) := C
  refine r_aload_n (pc := 0) C dX0_tenths_0 rfl ?_
  refine r_iload_n (pc := 1) C dX0_tenths_1 rfl ?_
  refine X_cQi (pc := 2) C (cX_isPrince B a _ _) q366 mX0_isPrince rfl dX0_tenths_2 (by decide) (Nat.le_of_ble_eq_true rfl) ?_
  refine r_if_eq (pc := 5) 30 C dX0_tenths_5 (by decide) (fun c5 => ?_) (fun c5 => ?_)
  · refine r_bipush (pc := 30) (-101) C dX0_tenths_30 (by decide) ?_
    exact r_iret (pc := 32) C hR dX0_tenths_32 (by decide) (by decide) (by refine ⟨?_, ?_⟩ <;> (try simp only [x_tenths, c5, ↓reduceIte]) <;> (try rfl))
  · obtain ⟨ep, hu, hu3⟩ := hI.pr c5
    have hk5 := hI.k5 hu
    refine r_aload_n (pc := 8) C dX0_tenths_8 rfl ?_
    refine r_iload_n (pc := 9) C dX0_tenths_9 rfl ?_
    refine X_cQi (pc := 10) C (cX_isLesson B a _ _) q242 mX0_isLesson rfl dX0_tenths_10 (by decide) (Nat.le_of_ble_eq_true rfl) ?_
    refine r_if_eq (pc := 13) 30 C dX0_tenths_13 (by decide) (fun c13 => ?_) (fun c13 => ?_)
    · refine r_bipush (pc := 30) (-101) C dX0_tenths_30 (by decide) ?_
      exact r_iret (pc := 32) C hR dX0_tenths_32 (by decide) (by decide) (by refine ⟨?_, ?_⟩ <;> (try simp only [x_tenths, c5, c13, ↓reduceIte]) <;> (try rfl))
    · have hl := hI.ls c13
      refine r_aload_n (pc := 16) C dX0_tenths_16 rfl ?_
      refine r_aload_n (pc := 17) C dX0_tenths_17 rfl ?_
      refine X_g6 (pc := 18) C dX0_tenths_18 ?_
      refine r_iload_n (pc := 21) C dX0_tenths_21 rfl ?_
      refine X_l6 (pc := 22) C dX0_tenths_22 ep hu hu3 ?_
      refine r_iload_n (pc := 23) C dX0_tenths_23 rfl ?_
      refine X_cQi (pc := 24) C (cX_tenthsOf B a _ _ _ (by assumption) (by assumption) (by assumption)) q523 mX0_tenthsOf rfl dX0_tenths_24 (by decide) (Nat.le_of_ble_eq_true rfl) ?_
      refine r_goto (pc := 27) 32 C dX0_tenths_27 (by decide) ?_
      exact r_iret (pc := 32) C hR dX0_tenths_32 (by decide) (by decide) (by refine ⟨?_, ?_⟩ <;> (try simp only [x_tenths, c5, c13, ↓reduceIte]) <;> (try rfl))

set_option maxHeartbeats 4000000 in
theorem cX_fondThen {G : Gx} (B : Base G) (a : Nat → Nat) (S : StX) (f s : Int32) : Ci G yX0_fondThen cX0_fondThen 3 .int (rmD 1) (wX G a) S [.ref (a 0), .int f, .int s] (fun r S' => r = fondNext (S.1 1) f s ∧ S' = S) := by
  refine Ci.of B [some (.ref (a 0)), some (.int f), some (.int s)] (by decide) rfl (Nat.le_of_ble_eq_true rfl) (fun E C hR => ?_)
  have C : CxOk E RX0 cX0_fondThen 3 G (rmD 1) := C
  refine r_iconst (pc := 0) (0) C dX0_fondThen_0 (by decide) ?_
  refine r_bipush (pc := 1) (9) C dX0_fondThen_1 (by decide) ?_
  refine r_iload_n (pc := 3) C dX0_fondThen_3 rfl ?_
  refine r_aload_n (pc := 4) C dX0_fondThen_4 rfl ?_
  refine X_g1 (pc := 5) C dX0_fondThen_5 ?_
  refine r_icmp_le (pc := 8) 17 C dX0_fondThen_8 (by decide) (fun c8 => ?_) (fun c8 => ?_)
  · refine r_iload_n (pc := 17) C dX0_fondThen_17 rfl ?_
    refine r_iconst (pc := 18) (1) C dX0_fondThen_18 (by decide) ?_
    refine r_iadd (pc := 19) C dX0_fondThen_19 ?_
    refine X_mmin (pc := 20) C dX0_fondThen_20 (by decide) (Nat.le_of_ble_eq_true rfl) ?_
    refine X_mmax (pc := 23) C dX0_fondThen_23 (by decide) (Nat.le_of_ble_eq_true rfl) ?_
    exact r_iret (pc := 26) C hR dX0_fondThen_26 (by decide) (by decide) ⟨by simp only [fondNext, c8, ↓reduceIte] <;> rfl, rfl⟩
  · refine r_iload_n (pc := 11) C dX0_fondThen_11 rfl ?_
    refine r_iconst (pc := 12) (2) C dX0_fondThen_12 (by decide) ?_
    refine r_isub (pc := 13) C dX0_fondThen_13 ?_
    refine r_goto (pc := 14) 20 C dX0_fondThen_14 (by decide) ?_
    refine X_mmin (pc := 20) C dX0_fondThen_20 (by decide) (Nat.le_of_ble_eq_true rfl) ?_
    refine X_mmax (pc := 23) C dX0_fondThen_23 (by decide) (Nat.le_of_ble_eq_true rfl) ?_
    exact r_iret (pc := 26) C hR dX0_fondThen_26 (by decide) (by decide) ⟨by simp only [fondNext, c8, ↓reduceIte] <;> rfl, rfl⟩

set_option maxHeartbeats 4000000 in
theorem cX_taught {G : Gx} (B : Base G) (a : Nat → Nat) (S : StX) (u : Nat) (l b : Int32) (hI : IX S) (hu : u < xnp S) (hl : vp_in l 5) : Cv G yX0_taught cX0_taught 4 (rmD 2) (wX G a) S [.ref (a 0), .ref (xpa S u), .int l, .int b] (fun S' => S' = x_taught S u l b) := by
  refine Cv.of B [some (.ref (a 0)), some (.ref (xpa S u)), some (.int l), some (.int b)] (by decide) rfl (Nat.le_of_ble_eq_true rfl) (fun E C hR => ?_)
  have C : CxOk E RX0 cX0_taught 4 G (rmD 2) := C
  have hu3 : u < 3 := Nat.lt_of_lt_of_le hu hI.np
  have hk5 := hI.k5 hu
  have e0 := hI.num hu
  have hb := hI.boy hu
  refine r_iload_n (pc := 0) C dX0_taught_0 rfl ?_
  refine r_if_eq (pc := 1) 17 C dX0_taught_1 (by decide) (fun c1 => ?_) (fun c1 => ?_)
  · refine r_aload_n (pc := 17) C dX0_taught_17 rfl ?_
    refine X_g5 (pc := 18) C dX0_taught_18 ?_
    refine r_aload_n (pc := 21) C dX0_taught_21 rfl ?_
    refine P_g2 (pc := 22) C dX0_taught_22 (by assumption) (by assumption) ?_
    refine r_dup2_11 (pc := 25) C dX0_taught_25 rfl rfl ?_
    refine X_l5 (pc := 26) C dX0_taught_26 (hb.in (by decide) (by decide)) ?_
    refine r_aload_n (pc := 27) C dX0_taught_27 rfl ?_
    refine X_g4 (pc := 28) C dX0_taught_28 ?_
    refine r_iload_n (pc := 31) C dX0_taught_31 rfl ?_
    refine X_l4 (pc := 32) C dX0_taught_32 (by assumption) ?_
    refine r_iadd (pc := 33) C dX0_taught_33 ?_
    refine X_s5 (pc := 34) C dX0_taught_34 (hb.in (by decide) (by decide)) ?_
    refine r_aload_n (pc := 35) C dX0_taught_35 rfl ?_
    refine X_g8 (pc := 36) C dX0_taught_36 ?_
    refine r_iconst (pc := 39) (3) C dX0_taught_39 (by decide) ?_
    refine r_aload_n (pc := 40) C dX0_taught_40 rfl ?_
    refine P_g0n (pc := 41) C dX0_taught_41 (by assumption) (by assumption) (by assumption) ?_
    refine r_imul (pc := 44) C dX0_taught_44 ?_
    refine r_aload_n (pc := 45) C dX0_taught_45 rfl ?_
    refine P_g2 (pc := 46) C dX0_taught_46 (by assumption) (by assumption) ?_
    refine r_iadd (pc := 49) C dX0_taught_49 ?_
    refine r_aload_n (pc := 50) C dX0_taught_50 rfl ?_
    refine r_aload_n (pc := 51) C dX0_taught_51 rfl ?_
    refine r_aload_n (pc := 52) C dX0_taught_52 rfl ?_
    refine X_cQi (pc := 53) C (cX_fondOf B a _ u (by exact hI) (by exact hu)) q394 mX0_fondOf rfl dX0_taught_53 (by decide) (Nat.le_of_ble_eq_true rfl) ?_
    refine r_aload_n (pc := 56) C dX0_taught_56 rfl ?_
    refine X_g5 (pc := 57) C dX0_taught_57 ?_
    refine r_aload_n (pc := 60) C dX0_taught_60 rfl ?_
    refine P_g2 (pc := 61) C dX0_taught_61 (by assumption) (by assumption) ?_
    refine X_l5 (pc := 64) C dX0_taught_64 (hb.in (by decide) (by decide)) ?_
    refine X_cQi (pc := 65) C (cX_fondThen B a _ _ _) q545 mX0_fondThen rfl dX0_taught_65 (by decide) (Nat.le_of_ble_eq_true rfl) ?_
    refine X_s8 (pc := 68) C dX0_taught_68 (vin9 hu3 hb) ?_
    exact r_vret (pc := 69) C hR dX0_taught_69 (by decide) (by decide) (by simp only [x_taught, c1, ↓reduceIte] <;> rfl)
  · refine r_aload_n (pc := 4) C dX0_taught_4 rfl ?_
    refine r_dup (pc := 5) C dX0_taught_5 rfl ?_
    refine P_g3 (pc := 6) C dX0_taught_6 (by assumption) (by assumption) ?_
    refine r_iconst (pc := 9) (1) C dX0_taught_9 (by decide) ?_
    refine r_iload_n (pc := 10) C dX0_taught_10 rfl ?_
    refine r_ishl (pc := 11) C dX0_taught_11 ?_
    refine r_ior (pc := 12) C dX0_taught_12 ?_
    refine P_p3 (pc := 13) C dX0_taught_13 (by assumption) (by assumption) ?_
    exact r_vret (pc := 16) C hR dX0_taught_16 (by decide) (by decide) (by simp only [x_taught, c1, ↓reduceIte] <;> rfl)

set_option maxHeartbeats 4000000 in
theorem cX_teach {G : Gx} (B : Base G) (a : Nat → Nat) (S : StX) (p l b : Int32) (hI : IX S) : Ci G yX0_teach cX0_teach 5 .int (rmD 5) (wX G a) S [.ref (a 0), .int p, .int l, .int b] (fun r S' => r = (x_teach S p l b).1 ∧ S' = (x_teach S p l b).2) := by
  refine Ci.of B [some (.ref (a 0)), some (.int p), some (.int l), some (.int b), none] (by decide) rfl (Nat.le_of_ble_eq_true rfl) (fun E C hR => ?_)
  have C : CxOk E RX0 cX0_teach 5 G (rmD 5) := C
  refine r_aload_n (pc := 0) C dX0_teach_0 rfl ?_
  refine r_iload_n (pc := 1) C dX0_teach_1 rfl ?_
  refine X_cQi (pc := 2) C (cX_isPrince B a _ _) q366 mX0_isPrince rfl dX0_teach_2 (by decide) (Nat.le_of_ble_eq_true rfl) ?_
  refine r_if_eq (pc := 5) 16 C dX0_teach_5 (by decide) (fun c5 => ?_) (fun c5 => ?_)
  · refine r_bipush (pc := 16) (-101) C dX0_teach_16 (by decide) ?_
    exact r_iret (pc := 18) C hR dX0_teach_18 (by decide) (by decide) (by refine ⟨?_, ?_⟩ <;> (try simp only [x_teach, x_teachS, c5, ↓reduceIte]) <;> (try rfl))
  · obtain ⟨ep, hu, hu3⟩ := hI.pr c5
    have hk5 := hI.k5 hu
    refine r_aload_n (pc := 8) C dX0_teach_8 rfl ?_
    refine r_iload_n (pc := 9) C dX0_teach_9 rfl ?_
    refine X_cQi (pc := 10) C (cX_isLesson B a _ _) q242 mX0_isLesson rfl dX0_teach_10 (by decide) (Nat.le_of_ble_eq_true rfl) ?_
    refine r_if_ne (pc := 13) 19 C dX0_teach_13 (by decide) (fun c13 => ?_) (fun c13 => ?_)
    · have hl := hI.ls c13
      have hb := hI.boy hu
      refine r_aload_n (pc := 19) C dX0_teach_19 rfl ?_
      refine X_g6 (pc := 20) C dX0_teach_20 ?_
      refine r_iload_n (pc := 23) C dX0_teach_23 rfl ?_
      refine X_l6 (pc := 24) C dX0_teach_24 ep hu hu3 ?_
      refine r_astore (pc := 25) C dX0_teach_25 (by decide) ?_
      refine r_aload (pc := 27) C dX0_teach_27 rfl ?_
      refine P_g3 (pc := 29) C dX0_teach_29 (by assumption) (by assumption) ?_
      refine r_iload_n (pc := 32) C dX0_teach_32 rfl ?_
      refine S_cQi (pc := 33) C (cX_has B _ _) q254 mX0_has rfl dX0_teach_33 (by decide) (Nat.le_of_ble_eq_true rfl) ?_
      refine r_if_ne (pc := 36) 59 C dX0_teach_36 (by decide) (fun c36 => ?_) (fun c36 => ?_)
      · refine r_bipush (pc := 59) (-103) C dX0_teach_59 (by decide) ?_
        exact r_iret (pc := 61) C hR dX0_teach_61 (by decide) (by decide) (by refine ⟨?_, ?_⟩ <;> (try simp only [x_teach, x_teachS, c5, c13, c36, ↓reduceIte]) <;> (try rfl))
      · refine r_aload_n (pc := 39) C dX0_teach_39 rfl ?_
        refine r_aload (pc := 40) C dX0_teach_40 rfl ?_
        refine r_iload_n (pc := 42) C dX0_teach_42 rfl ?_
        refine X_cQi (pc := 43) C (cX_tenthsOf B a _ _ _ (by assumption) (by assumption) (by assumption)) q523 mX0_tenthsOf rfl dX0_teach_43 (by decide) (Nat.le_of_ble_eq_true rfl) ?_
        refine r_iload_n (pc := 46) C dX0_teach_46 rfl ?_
        refine r_if_eq (pc := 47) 54 C dX0_teach_47 (by decide) (fun c47 => ?_) (fun c47 => ?_)
        · refine r_bipush (pc := 54) (10) C dX0_teach_54 (by decide) ?_
          refine r_icmp_ne (pc := 56) 62 C dX0_teach_56 (by decide) (fun c56 => ?_) (fun c56 => ?_)
          · refine r_aload_n (pc := 62) C dX0_teach_62 rfl ?_
            refine r_aload (pc := 63) C dX0_teach_63 rfl ?_
            refine r_iload_n (pc := 65) C dX0_teach_65 rfl ?_
            refine r_iload_n (pc := 66) C dX0_teach_66 rfl ?_
            refine X_cQv (pc := 67) C (cX_taught B a _ _ _ _ (by assumption) (by assumption) (by assumption)) q541 mX0_taught rfl dX0_teach_67 (by decide) (Nat.le_of_ble_eq_true rfl) ?_
            refine r_aload_n (pc := 70) C dX0_teach_70 rfl ?_
            refine X_g5 (pc := 71) C dX0_teach_71 ?_
            refine r_aload (pc := 74) C dX0_teach_74 rfl ?_
            refine P_g2e (pc := 76) p.toNatClampNeg C dX0_teach_76 (x_taught_pa S p.toNatClampNeg l b _) (by rw [x_taught_np]; exact hu) (by rw [x_taught_pk]; exact hk5) ?_
            refine X_l5 (pc := 79) C dX0_teach_79 (by rw [x_taught_boy]; exact hb.in (by decide) (by decide)) ?_
            exact r_iret (pc := 80) C hR dX0_teach_80 (by decide) (by decide) (by refine ⟨?_, ?_⟩ <;> (try simp only [x_teach, x_teachS, c5, c13, c36, c47, c56, ↓reduceIte]) <;> (try rfl))
          · refine r_bipush (pc := 59) (-103) C dX0_teach_59 (by decide) ?_
            exact r_iret (pc := 61) C hR dX0_teach_61 (by decide) (by decide) (by refine ⟨?_, ?_⟩ <;> (try simp only [x_teach, x_teachS, c5, c13, c36, c47, c56, ↓reduceIte]) <;> (try rfl))
        · refine r_iconst (pc := 50) (0) C dX0_teach_50 (by decide) ?_
          refine r_goto (pc := 51) 56 C dX0_teach_51 (by decide) ?_
          refine r_icmp_ne (pc := 56) 62 C dX0_teach_56 (by decide) (fun c56 => ?_) (fun c56 => ?_)
          · refine r_aload_n (pc := 62) C dX0_teach_62 rfl ?_
            refine r_aload (pc := 63) C dX0_teach_63 rfl ?_
            refine r_iload_n (pc := 65) C dX0_teach_65 rfl ?_
            refine r_iload_n (pc := 66) C dX0_teach_66 rfl ?_
            refine X_cQv (pc := 67) C (cX_taught B a _ _ _ _ (by assumption) (by assumption) (by assumption)) q541 mX0_taught rfl dX0_teach_67 (by decide) (Nat.le_of_ble_eq_true rfl) ?_
            refine r_aload_n (pc := 70) C dX0_teach_70 rfl ?_
            refine X_g5 (pc := 71) C dX0_teach_71 ?_
            refine r_aload (pc := 74) C dX0_teach_74 rfl ?_
            refine P_g2e (pc := 76) p.toNatClampNeg C dX0_teach_76 (x_taught_pa S p.toNatClampNeg l b _) (by rw [x_taught_np]; exact hu) (by rw [x_taught_pk]; exact hk5) ?_
            refine X_l5 (pc := 79) C dX0_teach_79 (by rw [x_taught_boy]; exact hb.in (by decide) (by decide)) ?_
            exact r_iret (pc := 80) C hR dX0_teach_80 (by decide) (by decide) (by refine ⟨?_, ?_⟩ <;> (try simp only [x_teach, x_teachS, c5, c13, c36, c47, c56, ↓reduceIte]) <;> (try rfl))
          · refine r_bipush (pc := 59) (-103) C dX0_teach_59 (by decide) ?_
            exact r_iret (pc := 61) C hR dX0_teach_61 (by decide) (by decide) (by refine ⟨?_, ?_⟩ <;> (try simp only [x_teach, x_teachS, c5, c13, c36, c47, c56, ↓reduceIte]) <;> (try rfl))
    · refine r_bipush (pc := 16) (-101) C dX0_teach_16 (by decide) ?_
      exact r_iret (pc := 18) C hR dX0_teach_18 (by decide) (by decide) (by refine ⟨?_, ?_⟩ <;> (try simp only [x_teach, x_teachS, c5, c13, ↓reduceIte]) <;> (try rfl))

