
set_option maxRecDepth 100000
/-- an int that is one of 0 .. n -/
def Rg (v : Int32) (n : Nat) : Prop := v = nI v.toNatClampNeg ∧ v.toNatClampNeg ≤ n
theorem Rg.of {j n : Nat} (h : j ≤ n) (hn : n < 2 ^ 31) : Rg (nI j) n := by
  unfold Rg
  rw [nI_clamp (by omega)]
  exact ⟨rfl, h⟩
theorem Rg.in {v : Int32} {n N : Nat} (h : Rg v n) (hN : n < N) (h2 : N < 2 ^ 31) : vp_in v N := by
  rw [h.1]
  exact vp_in_nI (by have := h.2; omega) h2
def jin (v lo hi : Int32) : Int32 := if lo ≤ v ∧ v ≤ hi then 1 else 0
def jinL (v lo hi : Int64) : Int32 := if lo ≤ v ∧ v ≤ hi then 1 else 0
def jhas (b k : Int32) : Int32 := if (b >>> (k &&& 31)) &&& 1 = 1 then 1 else 0
theorem i64_le (x y : Int32) : x.toInt64 ≤ y.toInt64 ↔ x ≤ y := by
  rw [Int64.le_iff_toInt_le, Int32.le_iff_toInt_le, Int32.toInt_toInt64, Int32.toInt_toInt64]
theorem jinL_i (x y z : Int32) : jinL x.toInt64 y.toInt64 z.toInt64 = jin x y z := by
  unfold jinL jin
  simp only [i64_le]
theorem jin_eq0 {x y z : Int32} : jin x y z = 0 ↔ ¬ (y ≤ x ∧ x ≤ z) := by
  unfold jin
  split <;> simp_all
theorem jin_ne0 {x y z : Int32} : ¬ jin x y z = 0 ↔ (y ≤ x ∧ x ≤ z) := by
  rw [jin_eq0, Classical.not_not]
theorem z_of {r : Int32} (h : r = 0 ∨ r = 1) : narrow .boolean (.int r) = .int r := by
  rcases h with rfl | rfl <;> decide
theorem jin_01 (x y z : Int32) : jin x y z = 0 ∨ jin x y z = 1 := by unfold jin; split <;> simp
theorem jinL_01 (x y z : Int64) : jinL x y z = 0 ∨ jinL x y z = 1 := by unfold jinL; split <;> simp
theorem jhas_01 (x y : Int32) : jhas x y = 0 ∨ jhas x y = 1 := by unfold jhas; split <;> simp
theorem lg_lt (x y : Int64) : lg_cmp x y < 0 ↔ ¬ y ≤ x := by
  rw [← lg_cmp_ge x y]
  exact ⟨fun h g => Int32.lt_irrefl (Int32.lt_of_lt_of_le h g), fun h => Int32.not_le.mp h⟩
theorem lg_gt (x y : Int64) : 0 < lg_cmp x y ↔ ¬ x ≤ y := by
  rw [← lg_cmp_le x y]
  exact ⟨fun h g => Int32.lt_irrefl (Int32.lt_of_lt_of_le h g), fun h => Int32.not_le.mp h⟩
/-- many of 'x in 0 .. m - 1' -/
theorem jin_cnt {v m : Int32} {n : Nat} (hm : Rg m n) (hn : n < 2 ^ 30) (h : ¬ jin v 0 (m - 1) = 0) : v = nI v.toNatClampNeg ∧ v.toNatClampNeg < m.toNatClampNeg := by
  obtain ⟨h1, h2⟩ := jin_ne0.mp h
  obtain ⟨j, hj, rfl⟩ := nI_of (x := v) (by rw [Int32.not_lt]; exact h1)
  rw [nI_clamp hj]
  refine ⟨rfl, ?_⟩
  rw [hm.1] at h2
  have h3 := hm.2
  generalize m.toNatClampNeg = q at h2 h3
  rw [Int32.le_iff_toInt_le, nI_toInt hj, show (1 : Int32) = nI 1 from rfl, pk_sub_toInt (by omega) (by omega)] at h2
  omega

set_option maxHeartbeats 4000000 in
theorem cX_isIn {G : Gx} (B : Base G) (v lo hi : Int64) : Ci G yX0_isIn cX0_isIn 6 .boolean (rmD 0) (fun _ : Unit => []) () [.long v, .long lo, .long hi] (fun r _ => r = jinL v lo hi) := by
  refine Ci.of B [some (.long v), none, some (.long lo), none, some (.long hi), none] (by decide) rfl (Nat.le_of_ble_eq_true rfl) (fun E C hR => ?_)
  have C : CxOk E RX0 cX0_isIn 6 G (rmD 0) := C
  refine r_lload_n (pc := 0) C dX0_isIn_0 rfl ?_
  refine r_lload_n (pc := 1) C dX0_isIn_1 rfl ?_
  refine r_lcmp (pc := 2) C dX0_isIn_2 ?_
  refine r_if_lt (pc := 3) 17 C dX0_isIn_3 (by decide) (fun c3 => ?_) (fun c3 => ?_)
  · refine r_iconst (pc := 17) (0) C dX0_isIn_17 (by decide) ?_
    exact r_zret (pc := 18) (S := ()) C hR dX0_isIn_18 (by decide) (by decide) (by decide) (by simp only [lg_lt, lg_gt, Classical.not_not] at *; simp [jinL, c3])
  · refine r_lload_n (pc := 6) C dX0_isIn_6 rfl ?_
    refine r_lload (pc := 7) C dX0_isIn_7 rfl ?_
    refine r_lcmp (pc := 9) C dX0_isIn_9 ?_
    refine r_if_gt (pc := 10) 17 C dX0_isIn_10 (by decide) (fun c10 => ?_) (fun c10 => ?_)
    · refine r_iconst (pc := 17) (0) C dX0_isIn_17 (by decide) ?_
      exact r_zret (pc := 18) (S := ()) C hR dX0_isIn_18 (by decide) (by decide) (by decide) (by simp only [lg_lt, lg_gt, Classical.not_not] at *; simp [jinL, c3, c10])
    · refine r_iconst (pc := 13) (1) C dX0_isIn_13 (by decide) ?_
      refine r_goto (pc := 14) 18 C dX0_isIn_14 (by decide) ?_
      exact r_zret (pc := 18) (S := ()) C hR dX0_isIn_18 (by decide) (by decide) (by decide) (by simp only [lg_lt, lg_gt, Classical.not_not] at *; simp [jinL, c3, c10])

theorem cX_isIn32 {G : Gx} (B : Base G) (v lo hi : Int32) : Ci G yX0_isIn cX0_isIn 6 .boolean (rmD 0) (fun _ : Unit => []) () [.long v.toInt64, .long lo.toInt64, .long hi.toInt64] (fun r _ => r = jin v lo hi) := by
  have h := cX_isIn B v.toInt64 lo.toInt64 hi.toInt64
  rw [jinL_i] at h
  exact h

set_option maxHeartbeats 4000000 in
theorem cX_has {G : Gx} (B : Base G) (b k : Int32) : Ci G yX0_has cX0_has 2 .boolean (rmD 0) (fun _ : Unit => []) () [.int b, .int k] (fun r _ => r = jhas b k) := by
  refine Ci.of B [some (.int b), some (.int k)] (by decide) rfl (Nat.le_of_ble_eq_true rfl) (fun E C hR => ?_)
  have C : CxOk E RX0 cX0_has 2 G (rmD 0) := C
  refine r_iload_n (pc := 0) C dX0_has_0 rfl ?_
  refine r_iload_n (pc := 1) C dX0_has_1 rfl ?_
  refine r_ishr (pc := 2) C dX0_has_2 ?_
  refine r_iconst (pc := 3) (1) C dX0_has_3 (by decide) ?_
  refine r_iand (pc := 4) C dX0_has_4 ?_
  refine r_iconst (pc := 5) (1) C dX0_has_5 (by decide) ?_
  refine r_icmp_ne (pc := 6) 13 C dX0_has_6 (by decide) (fun c6 => ?_) (fun c6 => ?_)
  · refine r_iconst (pc := 13) (0) C dX0_has_13 (by decide) ?_
    exact r_zret (pc := 14) (S := ()) C hR dX0_has_14 (by decide) (by decide) (by decide) (by simp [jhas, c6])
  · refine r_iconst (pc := 9) (1) C dX0_has_9 (by decide) ?_
    refine r_goto (pc := 10) 14 C dX0_has_10 (by decide) ?_
    exact r_zret (pc := 14) (S := ()) C hR dX0_has_14 (by decide) (by decide) (by decide) (by simp [jhas, c6])

set_option maxHeartbeats 4000000 in
theorem cM_has {G : Gx} (B : Base G) (b k : Int32) : Ci G yX1_has cX1_has 2 .boolean (rmD 0) (fun _ : Unit => []) () [.int b, .int k] (fun r _ => r = jhas b k) := by
  refine Ci.of B [some (.int b), some (.int k)] (by decide) rfl (Nat.le_of_ble_eq_true rfl) (fun E C hR => ?_)
  have C : CxOk E RX1 cX1_has 2 G (rmD 0) := C
  refine r_iload_n (pc := 0) C dX1_has_0 rfl ?_
  refine r_iload_n (pc := 1) C dX1_has_1 rfl ?_
  refine r_ishr (pc := 2) C dX1_has_2 ?_
  refine r_iconst (pc := 3) (1) C dX1_has_3 (by decide) ?_
  refine r_iand (pc := 4) C dX1_has_4 ?_
  refine r_iconst (pc := 5) (1) C dX1_has_5 (by decide) ?_
  refine r_icmp_ne (pc := 6) 13 C dX1_has_6 (by decide) (fun c6 => ?_) (fun c6 => ?_)
  · refine r_iconst (pc := 13) (0) C dX1_has_13 (by decide) ?_
    exact r_zret (pc := 14) (S := ()) C hR dX1_has_14 (by decide) (by decide) (by decide) (by simp [jhas, c6])
  · refine r_iconst (pc := 9) (1) C dX1_has_9 (by decide) ?_
    refine r_goto (pc := 10) 14 C dX1_has_10 (by decide) ?_
    exact r_zret (pc := 14) (S := ()) C hR dX1_has_14 (by decide) (by decide) (by decide) (by simp [jhas, c6])

set_option maxHeartbeats 4000000 in
theorem cM_within {G : Gx} (B : Base G) (v lo hi : Int32) : Ci G yX1_within cX1_within 3 .boolean (rmD 0) (fun _ : Unit => []) () [.int v, .int lo, .int hi] (fun r _ => r = jin v lo hi) := by
  refine Ci.of B [some (.int v), some (.int lo), some (.int hi)] (by decide) rfl (Nat.le_of_ble_eq_true rfl) (fun E C hR => ?_)
  have C : CxOk E RX1 cX1_within 3 G (rmD 0) := C
  refine r_iload_n (pc := 0) C dX1_within_0 rfl ?_
  refine r_iload_n (pc := 1) C dX1_within_1 rfl ?_
  refine r_icmp_lt (pc := 2) 14 C dX1_within_2 (by decide) (fun c2 => ?_) (fun c2 => ?_)
  · refine r_iconst (pc := 14) (0) C dX1_within_14 (by decide) ?_
    exact r_zret (pc := 15) (S := ()) C hR dX1_within_15 (by decide) (by decide) (by decide) (by (try simp only [← Int32.not_le, Classical.not_not] at *); simp [jin, c2])
  · refine r_iload_n (pc := 5) C dX1_within_5 rfl ?_
    refine r_iload_n (pc := 6) C dX1_within_6 rfl ?_
    refine r_icmp_gt (pc := 7) 14 C dX1_within_7 (by decide) (fun c7 => ?_) (fun c7 => ?_)
    · refine r_iconst (pc := 14) (0) C dX1_within_14 (by decide) ?_
      exact r_zret (pc := 15) (S := ()) C hR dX1_within_15 (by decide) (by decide) (by decide) (by (try simp only [← Int32.not_le, Classical.not_not] at *); simp [jin, c2, c7])
    · refine r_iconst (pc := 10) (1) C dX1_within_10 (by decide) ?_
      refine r_goto (pc := 11) 15 C dX1_within_11 (by decide) ?_
      exact r_zret (pc := 15) (S := ()) C hR dX1_within_15 (by decide) (by decide) (by decide) (by (try simp only [← Int32.not_le, Classical.not_not] at *); simp [jin, c2, c7])


def x_isThere (S : StX) : Int32 := if S.1 0 ≤ 0 then 0 else 1
def x_isLesson (S : StX) (l : Int32) : Int32 := jin l 0 (S.1 0 - 1)
def x_isPrince (S : StX) (p : Int32) : Int32 := jin p 0 (S.1 7 - 1)
def m_isLesson (T : StM) (l : Int32) : Int32 := jin l 0 (T.1 1 - 1)
def m_isPrince (T : StM) (p : Int32) : Int32 := jin p 0 (T.1 6 - 1)
def m_isBoy (T : StM) (b : Int32) : Int32 := if T.1 1 ≤ 0 then 0 else jin b 0 2
def x_letter (S : StX) (c : Int32) : Int32 × StX := if jin c 32 126 = 0 then (-102, S) else if S.1 10 = 18 then (-104, S) else (S.1 10 + 1, setXi (setXa S 9 (upd (S.2.2.1 9) (S.1 10).toNatClampNeg c)) 10 (S.1 10 + 1))
def m_letter (T : StM) (c : Int32) : Int32 × StM := if jin c 32 126 = 0 then (-102, T) else if T.1 17 = 18 then (-104, T) else (T.1 17 + 1, setMi (setMa T 18 (upd (T.2.2 18) (T.1 17).toNatClampNeg (vp_nar .byte c.toInt8.toInt32))) 17 (T.1 17 + 1))
theorem Rg.in_ne {v : Int32} {n : Nat} (h : Rg v n) (hn : n < 2 ^ 31) (hne : ¬ v = nI n) : vp_in v n := by
  rw [h.1]
  refine vp_in_nI (Nat.lt_of_le_of_ne h.2 fun e => hne ?_) hn
  rw [h.1, e]

set_option maxHeartbeats 4000000 in
theorem cX_isThere {G : Gx} (B : Base G) (a : Nat → Nat) (S : StX)  : Ci G yX0_isThere cX0_isThere 1 .boolean (rmD 0) (wX G a) S [.ref (a 0)] (fun r S' => r = x_isThere S ∧ S' = S) := by
  refine Ci.of B [some (.ref (a 0))] (by decide) rfl (Nat.le_of_ble_eq_true rfl) (fun E C hR => ?_)
  have C : CxOk E RX0 cX0_isThere 1 G (rmD 0) := C
  refine r_aload_n (pc := 0) C dX0_isThere_0 rfl ?_
  refine X_g0 (pc := 1) C dX0_isThere_1 ?_
  refine r_if_le (pc := 4) 11 C dX0_isThere_4 (by decide) (fun c4 => ?_) (fun c4 => ?_)
  · refine r_iconst (pc := 11) (0) C dX0_isThere_11 (by decide) ?_
    exact r_zret (pc := 12) C hR dX0_isThere_12 (by decide) (by decide) (by decide) (by refine ⟨?_, ?_⟩ <;> (try simp only [x_isThere, c4, ↓reduceIte]) <;> (try rfl))
  · refine r_iconst (pc := 7) (1) C dX0_isThere_7 (by decide) ?_
    refine r_goto (pc := 8) 12 C dX0_isThere_8 (by decide) ?_
    exact r_zret (pc := 12) C hR dX0_isThere_12 (by decide) (by decide) (by decide) (by refine ⟨?_, ?_⟩ <;> (try simp only [x_isThere, c4, ↓reduceIte]) <;> (try rfl))

set_option maxHeartbeats 4000000 in
theorem cX_isLesson {G : Gx} (B : Base G) (a : Nat → Nat) (S : StX) (l : Int32) : Ci G yX0_isLesson cX0_isLesson 2 .boolean (rmD 1) (wX G a) S [.ref (a 0), .int l] (fun r S' => r = x_isLesson S l ∧ S' = S) := by
  refine Ci.of B [some (.ref (a 0)), some (.int l)] (by decide) rfl (Nat.le_of_ble_eq_true rfl) (fun E C hR => ?_)
  have C : CxOk E RX0 cX0_isLesson 2 G (rmD 1) := C
  refine r_iload_n (pc := 0) C dX0_isLesson_0 rfl ?_
  refine r_i2l (pc := 1) C dX0_isLesson_1 ?_
  refine r_lconst (pc := 2) 0 C dX0_isLesson_2 (by decide) ?_
  refine r_aload_n (pc := 3) C dX0_isLesson_3 rfl ?_
  refine X_g0 (pc := 4) C dX0_isLesson_4 ?_
  refine r_iconst (pc := 7) (1) C dX0_isLesson_7 (by decide) ?_
  refine r_isub (pc := 8) C dX0_isLesson_8 ?_
  refine r_i2l (pc := 9) C dX0_isLesson_9 ?_
  refine S_cQi (pc := 10) C (cX_isIn32 B _ 0 _) q211 mX0_isIn rfl dX0_isLesson_10 (by decide) (Nat.le_of_ble_eq_true rfl) ?_
  exact r_zret (pc := 13) C hR dX0_isLesson_13 (z_of (jin_01 _ _ _)) (by decide) (by decide) ⟨rfl, rfl⟩

set_option maxHeartbeats 4000000 in
theorem cM_isLesson {G : Gx} (B : Base G) (a : Nat → Nat) (T : StM) (l : Int32) : Ci G yX1_isLesson cX1_isLesson 2 .boolean (rmD 1) (wM G a) T [.ref (a 0), .int l] (fun r S' => r = m_isLesson T l ∧ S' = T) := by
  refine Ci.of B [some (.ref (a 0)), some (.int l)] (by decide) rfl (Nat.le_of_ble_eq_true rfl) (fun E C hR => ?_)
  have C : CxOk E RX1 cX1_isLesson 2 G (rmD 1) := C
  refine r_iload_n (pc := 0) C dX1_isLesson_0 rfl ?_
  refine r_iconst (pc := 1) (0) C dX1_isLesson_1 (by decide) ?_
  refine r_aload_n (pc := 2) C dX1_isLesson_2 rfl ?_
  refine M_g1 (pc := 3) C dX1_isLesson_3 ?_
  refine r_iconst (pc := 6) (1) C dX1_isLesson_6 (by decide) ?_
  refine r_isub (pc := 7) C dX1_isLesson_7 ?_
  refine S_cQi (pc := 8) C (cM_within B _ _ _) q826 mX1_within rfl dX1_isLesson_8 (by decide) (Nat.le_of_ble_eq_true rfl) ?_
  exact r_zret (pc := 11) C hR dX1_isLesson_11 (z_of (jin_01 _ _ _)) (by decide) (by decide) ⟨rfl, rfl⟩

set_option maxHeartbeats 4000000 in
theorem cX_isPrince {G : Gx} (B : Base G) (a : Nat → Nat) (S : StX) (l : Int32) : Ci G yX0_isPrince cX0_isPrince 2 .boolean (rmD 1) (wX G a) S [.ref (a 0), .int l] (fun r S' => r = x_isPrince S l ∧ S' = S) := by
  refine Ci.of B [some (.ref (a 0)), some (.int l)] (by decide) rfl (Nat.le_of_ble_eq_true rfl) (fun E C hR => ?_)
  have C : CxOk E RX0 cX0_isPrince 2 G (rmD 1) := C
  refine r_iload_n (pc := 0) C dX0_isPrince_0 rfl ?_
  refine r_i2l (pc := 1) C dX0_isPrince_1 ?_
  refine r_lconst (pc := 2) 0 C dX0_isPrince_2 (by decide) ?_
  refine r_aload_n (pc := 3) C dX0_isPrince_3 rfl ?_
  refine X_g7 (pc := 4) C dX0_isPrince_4 ?_
  refine r_iconst (pc := 7) (1) C dX0_isPrince_7 (by decide) ?_
  refine r_isub (pc := 8) C dX0_isPrince_8 ?_
  refine r_i2l (pc := 9) C dX0_isPrince_9 ?_
  refine S_cQi (pc := 10) C (cX_isIn32 B _ 0 _) q211 mX0_isIn rfl dX0_isPrince_10 (by decide) (Nat.le_of_ble_eq_true rfl) ?_
  exact r_zret (pc := 13) C hR dX0_isPrince_13 (z_of (jin_01 _ _ _)) (by decide) (by decide) ⟨rfl, rfl⟩

set_option maxHeartbeats 4000000 in
theorem cM_isPrince {G : Gx} (B : Base G) (a : Nat → Nat) (T : StM) (l : Int32) : Ci G yX1_isPrince cX1_isPrince 2 .boolean (rmD 1) (wM G a) T [.ref (a 0), .int l] (fun r S' => r = m_isPrince T l ∧ S' = T) := by
  refine Ci.of B [some (.ref (a 0)), some (.int l)] (by decide) rfl (Nat.le_of_ble_eq_true rfl) (fun E C hR => ?_)
  have C : CxOk E RX1 cX1_isPrince 2 G (rmD 1) := C
  refine r_iload_n (pc := 0) C dX1_isPrince_0 rfl ?_
  refine r_iconst (pc := 1) (0) C dX1_isPrince_1 (by decide) ?_
  refine r_aload_n (pc := 2) C dX1_isPrince_2 rfl ?_
  refine M_g6 (pc := 3) C dX1_isPrince_3 ?_
  refine r_iconst (pc := 6) (1) C dX1_isPrince_6 (by decide) ?_
  refine r_isub (pc := 7) C dX1_isPrince_7 ?_
  refine S_cQi (pc := 8) C (cM_within B _ _ _) q826 mX1_within rfl dX1_isPrince_8 (by decide) (Nat.le_of_ble_eq_true rfl) ?_
  exact r_zret (pc := 11) C hR dX1_isPrince_11 (z_of (jin_01 _ _ _)) (by decide) (by decide) ⟨rfl, rfl⟩

set_option maxHeartbeats 4000000 in
theorem cX_isBoy {G : Gx} (B : Base G) (b : Int32) : Ci G yX0_isBoy cX0_isBoy 1 .boolean (rmD 1) (fun _ : Unit => []) () [.int b] (fun r _ => r = jin b 0 2) := by
  refine Ci.of B [some (.int b)] (by decide) rfl (Nat.le_of_ble_eq_true rfl) (fun E C hR => ?_)
  have C : CxOk E RX0 cX0_isBoy 1 G (rmD 1) := C
  refine r_iload_n (pc := 0) C dX0_isBoy_0 rfl ?_
  refine r_i2l (pc := 1) C dX0_isBoy_1 ?_
  refine r_lconst (pc := 2) 0 C dX0_isBoy_2 (by decide) ?_
  refine r_ldc2 (pc := 3) C dX0_isBoy_3 q268 ?_
  refine S_cQi (pc := 6) C (cX_isIn32 B _ 0 2) q211 mX0_isIn rfl dX0_isBoy_6 (by decide) (Nat.le_of_ble_eq_true rfl) ?_
  exact r_zret (pc := 9) (S := ()) C hR dX0_isBoy_9 (z_of (jin_01 _ _ _)) (by decide) (by decide) rfl

set_option maxHeartbeats 4000000 in
theorem cM_isBoy {G : Gx} (B : Base G) (a : Nat → Nat) (T : StM) (b : Int32) : Ci G yX1_isBoy cX1_isBoy 2 .boolean (rmD 1) (wM G a) T [.ref (a 0), .int b] (fun r S' => r = m_isBoy T b ∧ S' = T) := by
  refine Ci.of B [some (.ref (a 0)), some (.int b)] (by decide) rfl (Nat.le_of_ble_eq_true rfl) (fun E C hR => ?_)
  have C : CxOk E RX1 cX1_isBoy 2 G (rmD 1) := C
  refine r_aload_n (pc := 0) C dX1_isBoy_0 rfl ?_
  refine M_g1 (pc := 1) C dX1_isBoy_1 ?_
  refine r_if_le (pc := 4) 20 C dX1_isBoy_4 (by decide) (fun c4 => ?_) (fun c4 => ?_)
  · refine r_iconst (pc := 20) (0) C dX1_isBoy_20 (by decide) ?_
    exact r_zret (pc := 21) C hR dX1_isBoy_21 (by decide) (by decide) (by decide) (by simp only [m_isBoy, c4, ↓reduceIte]; first | exact ⟨rfl, rfl⟩ | (rcases jin_01 b 0 2 with h | h <;> simp_all))
  · refine r_iload_n (pc := 7) C dX1_isBoy_7 rfl ?_
    refine r_iconst (pc := 8) (0) C dX1_isBoy_8 (by decide) ?_
    refine r_iconst (pc := 9) (2) C dX1_isBoy_9 (by decide) ?_
    refine S_cQi (pc := 10) C (cM_within B _ _ _) q826 mX1_within rfl dX1_isBoy_10 (by decide) (Nat.le_of_ble_eq_true rfl) ?_
    refine r_if_eq (pc := 13) 20 C dX1_isBoy_13 (by decide) (fun c13 => ?_) (fun c13 => ?_)
    · refine r_iconst (pc := 20) (0) C dX1_isBoy_20 (by decide) ?_
      exact r_zret (pc := 21) C hR dX1_isBoy_21 (by decide) (by decide) (by decide) (by simp only [m_isBoy, c4, c13, ↓reduceIte]; first | exact ⟨rfl, rfl⟩ | (rcases jin_01 b 0 2 with h | h <;> simp_all))
    · refine r_iconst (pc := 16) (1) C dX1_isBoy_16 (by decide) ?_
      refine r_goto (pc := 17) 21 C dX1_isBoy_17 (by decide) ?_
      exact r_zret (pc := 21) C hR dX1_isBoy_21 (by decide) (by decide) (by decide) (by simp only [m_isBoy, c4, c13, ↓reduceIte]; first | exact ⟨rfl, rfl⟩ | (rcases jin_01 b 0 2 with h | h <;> simp_all))

set_option maxHeartbeats 4000000 in
theorem cX_letter {G : Gx} (B : Base G) (a : Nat → Nat) (S : StX) (c : Int32) (hI : Rg (S.1 10) 18) : Ci G yX0_letter cX0_letter 2 .int (rmD 1) (wX G a) S [.ref (a 0), .int c] (fun r S' => r = (x_letter S c).1 ∧ S' = (x_letter S c).2) := by
  refine Ci.of B [some (.ref (a 0)), some (.int c)] (by decide) rfl (Nat.le_of_ble_eq_true rfl) (fun E C hR => ?_)
  have C : CxOk E RX0 cX0_letter 2 G (rmD 1) := C
  refine r_iload_n (pc := 0) C dX0_letter_0 rfl ?_
  refine r_i2l (pc := 1) C dX0_letter_1 ?_
  refine r_ldc2 (pc := 2) C dX0_letter_2 q209 ?_
  refine r_ldc2 (pc := 5) C dX0_letter_5 q210 ?_
  refine S_cQi (pc := 8) C (cX_isIn32 B _ 32 126) q211 mX0_isIn rfl dX0_letter_8 (by decide) (Nat.le_of_ble_eq_true rfl) ?_
  refine r_if_ne (pc := 11) 17 C dX0_letter_11 (by decide) (fun c11 => ?_) (fun c11 => ?_)
  · refine r_aload_n (pc := 17) C dX0_letter_17 rfl ?_
    refine X_g10 (pc := 18) C dX0_letter_18 ?_
    refine r_bipush (pc := 21) (18) C dX0_letter_21 (by decide) ?_
    refine r_icmp_ne (pc := 23) 29 C dX0_letter_23 (by decide) (fun c23 => ?_) (fun c23 => ?_)
    · refine r_aload_n (pc := 29) C dX0_letter_29 rfl ?_
      refine X_g9 (pc := 30) C dX0_letter_30 ?_
      refine r_aload_n (pc := 33) C dX0_letter_33 rfl ?_
      refine X_g10 (pc := 34) C dX0_letter_34 ?_
      refine r_iload_n (pc := 37) C dX0_letter_37 rfl ?_
      refine X_s9 (pc := 38) C dX0_letter_38 (hI.in_ne (by decide) (by assumption)) ?_
      refine r_aload_n (pc := 39) C dX0_letter_39 rfl ?_
      refine r_dup (pc := 40) C dX0_letter_40 rfl ?_
      refine X_g10 (pc := 41) C dX0_letter_41 ?_
      refine r_iconst (pc := 44) (1) C dX0_letter_44 (by decide) ?_
      refine r_iadd (pc := 45) C dX0_letter_45 ?_
      refine X_p10 (pc := 46) C dX0_letter_46 ?_
      refine r_aload_n (pc := 49) C dX0_letter_49 rfl ?_
      refine X_g10 (pc := 50) C dX0_letter_50 ?_
      exact r_iret (pc := 53) C hR dX0_letter_53 (by decide) (by decide) (by refine ⟨?_, ?_⟩ <;> (try simp only [x_letter, c11, c23, ↓reduceIte]) <;> (try rfl))
    · refine r_bipush (pc := 26) (-104) C dX0_letter_26 (by decide) ?_
      exact r_iret (pc := 28) C hR dX0_letter_28 (by decide) (by decide) (by refine ⟨?_, ?_⟩ <;> (try simp only [x_letter, c11, c23, ↓reduceIte]) <;> (try rfl))
  · refine r_bipush (pc := 14) (-102) C dX0_letter_14 (by decide) ?_
    exact r_iret (pc := 16) C hR dX0_letter_16 (by decide) (by decide) (by refine ⟨?_, ?_⟩ <;> (try simp only [x_letter, c11, ↓reduceIte]) <;> (try rfl))

set_option maxHeartbeats 4000000 in
theorem cM_letter {G : Gx} (B : Base G) (a : Nat → Nat) (T : StM) (c : Int32) (hI : Rg (T.1 17) 18) : Ci G yX1_letter cX1_letter 2 .int (rmD 1) (wM G a) T [.ref (a 0), .int c] (fun r S' => r = (m_letter T c).1 ∧ S' = (m_letter T c).2) := by
  refine Ci.of B [some (.ref (a 0)), some (.int c)] (by decide) rfl (Nat.le_of_ble_eq_true rfl) (fun E C hR => ?_)
  have C : CxOk E RX1 cX1_letter 2 G (rmD 1) := C
  refine r_iload_n (pc := 0) C dX1_letter_0 rfl ?_
  refine r_bipush (pc := 1) (32) C dX1_letter_1 (by decide) ?_
  refine r_bipush (pc := 3) (126) C dX1_letter_3 (by decide) ?_
  refine S_cQi (pc := 5) C (cM_within B _ _ _) q826 mX1_within rfl dX1_letter_5 (by decide) (Nat.le_of_ble_eq_true rfl) ?_
  refine r_if_ne (pc := 8) 14 C dX1_letter_8 (by decide) (fun c8 => ?_) (fun c8 => ?_)
  · refine r_aload_n (pc := 14) C dX1_letter_14 rfl ?_
    refine M_g17 (pc := 15) C dX1_letter_15 ?_
    refine r_bipush (pc := 18) (18) C dX1_letter_18 (by decide) ?_
    refine r_icmp_ne (pc := 20) 26 C dX1_letter_20 (by decide) (fun c20 => ?_) (fun c20 => ?_)
    · refine r_aload_n (pc := 26) C dX1_letter_26 rfl ?_
      refine M_g18 (pc := 27) C dX1_letter_27 ?_
      refine r_aload_n (pc := 30) C dX1_letter_30 rfl ?_
      refine M_g17 (pc := 31) C dX1_letter_31 ?_
      refine r_iload_n (pc := 34) C dX1_letter_34 rfl ?_
      refine r_i2b (pc := 35) C dX1_letter_35 ?_
      refine M_s18 (pc := 36) C dX1_letter_36 (hI.in_ne (by decide) (by assumption)) ?_
      refine r_aload_n (pc := 37) C dX1_letter_37 rfl ?_
      refine r_dup (pc := 38) C dX1_letter_38 rfl ?_
      refine M_g17 (pc := 39) C dX1_letter_39 ?_
      refine r_iconst (pc := 42) (1) C dX1_letter_42 (by decide) ?_
      refine r_iadd (pc := 43) C dX1_letter_43 ?_
      refine M_p17 (pc := 44) C dX1_letter_44 ?_
      refine r_aload_n (pc := 47) C dX1_letter_47 rfl ?_
      refine M_g17 (pc := 48) C dX1_letter_48 ?_
      exact r_iret (pc := 51) C hR dX1_letter_51 (by decide) (by decide) (by refine ⟨?_, ?_⟩ <;> (try simp only [m_letter, c8, c20, ↓reduceIte]) <;> (try rfl))
    · refine r_bipush (pc := 23) (-104) C dX1_letter_23 (by decide) ?_
      exact r_iret (pc := 25) C hR dX1_letter_25 (by decide) (by decide) (by refine ⟨?_, ?_⟩ <;> (try simp only [m_letter, c8, c20, ↓reduceIte]) <;> (try rfl))
  · refine r_bipush (pc := 11) (-102) C dX1_letter_11 (by decide) ?_
    exact r_iret (pc := 13) C hR dX1_letter_13 (by decide) (by decide) (by refine ⟨?_, ?_⟩ <;> (try simp only [m_letter, c8, ↓reduceIte]) <;> (try rfl))

set_option maxHeartbeats 4000000 in
theorem cX_blank {G : Gx} (B : Base G) (a : Nat → Nat) (S : StX)  : Ci G yX0_blank cX0_blank 2 .int (rmD 0) (wX G a) S [.ref (a 0)] (fun r S' => r = S.1 10 ∧ S' = setXi S 10 0) := by
  refine Ci.of B [some (.ref (a 0)), none] (by decide) rfl (Nat.le_of_ble_eq_true rfl) (fun E C hR => ?_)
  have C : CxOk E RX0 cX0_blank 2 G (rmD 0) := C
  refine r_aload_n (pc := 0) C dX0_blank_0 rfl ?_
  refine X_g10 (pc := 1) C dX0_blank_1 ?_
  refine r_istore_n (pc := 4) C dX0_blank_4 (by decide) ?_
  refine r_aload_n (pc := 5) C dX0_blank_5 rfl ?_
  refine r_iconst (pc := 6) (0) C dX0_blank_6 (by decide) ?_
  refine X_p10 (pc := 7) C dX0_blank_7 ?_
  refine r_iload_n (pc := 10) C dX0_blank_10 rfl ?_
  exact r_iret (pc := 11) C hR dX0_blank_11 (by decide) (by decide) ⟨rfl, rfl⟩

set_option maxHeartbeats 4000000 in
theorem cM_blank {G : Gx} (B : Base G) (a : Nat → Nat) (T : StM)  : Ci G yX1_blank cX1_blank 2 .int (rmD 0) (wM G a) T [.ref (a 0)] (fun r S' => r = T.1 17 ∧ S' = setMi T 17 0) := by
  refine Ci.of B [some (.ref (a 0)), none] (by decide) rfl (Nat.le_of_ble_eq_true rfl) (fun E C hR => ?_)
  have C : CxOk E RX1 cX1_blank 2 G (rmD 0) := C
  refine r_aload_n (pc := 0) C dX1_blank_0 rfl ?_
  refine M_g17 (pc := 1) C dX1_blank_1 ?_
  refine r_istore_n (pc := 4) C dX1_blank_4 (by decide) ?_
  refine r_aload_n (pc := 5) C dX1_blank_5 rfl ?_
  refine r_iconst (pc := 6) (0) C dX1_blank_6 (by decide) ?_
  refine M_p17 (pc := 7) C dX1_blank_7 ?_
  refine r_iload_n (pc := 10) C dX1_blank_10 rfl ?_
  exact r_iret (pc := 11) C hR dX1_blank_11 (by decide) (by decide) ⟨rfl, rfl⟩

