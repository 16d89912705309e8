
set_option maxRecDepth 100000
theorem V_cnt (P : Nat → Prop) (n : Nat) (hs : ∀ i, i < n → P (i + 1) → P i) (hx : P n) : P 0 := V_for (fun i (_ : Unit) => P i) (fun _ u => u) () n hs hx
theorem V_wf (P : Nat → Nat → Prop) (hs : ∀ x y, (∀ x' y', x' < x → P x' y') → P x y) : ∀ x y, P x y := by
  intro x
  induction x using Nat.strongRecOn with
  | ind x ih => intro y; exact hs x y (fun x' y' h => ih x' h y')
theorem lg_eq (x y : Int64) : lg_cmp x y = 0 ↔ x = y := by
  unfold lg_cmp
  by_cases h : x > y
  · rw [if_pos h]
    refine ⟨fun e => absurd e (by decide), fun e => ?_⟩
    subst e
    exact absurd h Int64.lt_irrefl
  · rw [if_neg h]
    by_cases h2 : x = y
    · rw [if_pos h2]; simp [h2]
    · rw [if_neg h2]
      exact ⟨fun e => absurd e (by decide), fun e => absurd e h2⟩
theorem lN_z {x : Nat} (hx : x < 2 ^ 63) : lg_cmp (lN x) 0 = 0 ↔ x = 0 := by
  rw [lg_eq, show (0 : Int64) = lN 0 from rfl]
  exact pk_lEQ hx (by decide)
/-- a number in lowest terms: its upper or its lower part -/
def termN (u w : Nat) (part : Int32) : Int64 := if part = 0 then lN (u / Nat.gcd u w) else lN (w / Nat.gcd u w)
def dgN (m c p : Nat) : Nat := c / 3 ^ (m - 1 - p) % 3
def dgi (m c i : Nat) (o : Nat → Int32) : Nat → Int32 := fun p => if m - i ≤ p ∧ p < m then nI (dgN m c p) else o p
def snF (c i : Nat) (z : Int32) : Int32 := z ||| (1 : Int32) <<< (nI (c / 3 ^ i % 3) &&& 31)
def snX (m c : Nat) : Int32 := nf (snF c) m 0
def x_m (S : StX) : Nat := (S.1 7).toNatClampNeg
def x_isM (S : StX) (c : Nat) : Int32 := if jbc (snX (x_m S) c) = S.1 7 then 1 else 0
def x_ms (S : StX) (l : Int32) (c p : Nat) (z : Int32) : Int32 := z + (10 - x_tenthsBy S p l (xar S 8 (3 * nI p + nI (dgN (x_m S) c p)).toNatClampNeg)) * xar S 4 l.toNatClampNeg
def x_msum (S : StX) (l : Int32) (c : Nat) : Int32 := nf (x_ms S l c) (x_m S) 0
def x_lmF (S : StX) (l : Int32) (c : Nat) (q : Int32 × Nat) : Int32 × Nat := if x_isM S c = 0 then q else if q.1 = -1 then (x_msum S l c, c) else if q.1 ≤ x_msum S l c then q else (x_msum S l c, c)
def x_lm (S : StX) (l : Int32) : Int32 × Nat := nf (x_lmF S l) (3 ^ x_m S) (-1, 0)
/-- the match that is laid, as far as there is one -/
def BmOk (S : StX) (q : Int32 × Nat) (b : Nat → Int32) : Prop := q.1 = -1 ∨ ∀ p, p < x_m S → b p = nI (dgN (x_m S) q.2 p)
def x_sc (S : StX) (j b : Nat → Int32) : StX := setXa (setXa S 16 j) 17 b
theorem x_sc16 (S : StX) (j b g : Nat → Int32) : setXa (x_sc S j b) 16 g = x_sc S g b := by
  unfold x_sc setXa
  rw [up_comm _ (by decide : ¬ 17 = 16), up_up]
theorem x_sc17 (S : StX) (j b g : Nat → Int32) : setXa (x_sc S j b) 17 g = x_sc S j g := by
  unfold x_sc setXa
  rw [up_up]
theorem x_sc_id (S : StX) : x_sc S (xar S 16) (xar S 17) = S := by
  have h : ∀ (f : Nat → Nat → Int32) (k : Nat), va_up f k (f k) = f := by
    intro f k
    funext j
    unfold va_up
    split
    · rename_i e; rw [e]
    · rfl
  unfold x_sc setXa xar
  rw [h, h]
theorem dg_step (S : StX) {m c i : Nat} (o : Nat → Int32) (hm : m ≤ 3) (hi : i < m) : setXa (setXa S 16 (dgi m c i o)) 16 (upd ((setXa S 16 (dgi m c i o)).2.2.1 16) (nI (m - i - 1)).toNatClampNeg (nI (c / 3 ^ i % 3))) = setXa S 16 (dgi m c (i + 1) o) := by
  unfold setXa
  rw [up_up]
  congr 3
  show va_up S.2.2.1 16 (upd (dgi m c i o) _ _) = _
  congr 1
  funext p
  rw [nI_clamp (by omega)]
  unfold upd dgi dgN
  by_cases h : p = m - i - 1
  · rw [if_pos h, if_pos ⟨by omega, by omega⟩, show m - 1 - p = i by omega]
  · rw [if_neg h]
    by_cases h2 : m - i ≤ p ∧ p < m
    · rw [if_pos h2, if_pos ⟨by omega, h2.2⟩]
    · rw [if_neg h2, if_neg (by omega)]
theorem dg_read (S : StX) {m c i : Nat} (o : Nat → Int32) (hm : m ≤ 3) (hi : i < m) : (setXa S 16 (dgi m c (i + 1) o)).2.2.1 16 (nI (m - i - 1)).toNatClampNeg = nI (c / 3 ^ i % 3) := by
  show dgi m c (i + 1) o _ = _
  rw [nI_clamp (by omega)]
  unfold dgi dgN
  rw [if_pos ⟨by omega, by omega⟩, show m - 1 - (m - i - 1) = i by omega]
theorem dg_0 (S : StX) (m c : Nat) : S = setXa S 16 (dgi m c 0 (xar S 16)) := by
  have e : dgi m c 0 (xar S 16) = xar S 16 := by
    funext p
    unfold dgi
    rw [if_neg (by omega)]
  rw [e]
  have h : ∀ (f : Nat → Nat → Int32) (k : Nat), va_up f k (f k) = f := by
    intro f k
    funext j
    unfold va_up
    split
    · rename_i e; rw [e]
    · rfl
  unfold setXa xar
  rw [h]
theorem cdec {m i : Nat} (hi : i < m) : nI (m - i) - 1 = nI (m - i - 1) := by
  rw [show m - i = (m - i - 1) + 1 by omega]
  exact nI_pred _
theorem cdec2 {m i : Nat} : nI (m - i - 1) + Int32.ofInt (-1) = nI (m - (i + 1)) - 1 := by
  rw [Int32.sub_eq_add_neg, show m - (i + 1) = m - i - 1 by omega]
  rfl
theorem div3 {c i : Nat} (hc : c < 27) : nI (c / 3 ^ i) / 3 = nI (c / 3 ^ (i + 1)) := by
  have h : c / 3 ^ i ≤ c := Nat.div_le_self _ _
  rw [show (3 : Int32) = nI 3 from rfl, pk_div (by omega) (by decide) (by decide), Nat.div_div_eq_div_mul, Nat.pow_succ]
theorem rem3 {c i : Nat} (hc : c < 27) : nI (c / 3 ^ i) - nI (c / 3 ^ i) / 3 * 3 = nI (c / 3 ^ i % 3) := by
  have h : c / 3 ^ i ≤ c := Nat.div_le_self _ _
  exact pk_rem (d := 3) (by omega) (by decide) (by decide)
theorem vin9d {u m c : Nat} (hu : u < 3) : vp_in (3 * nI u + nI (dgN m c u)) 9 := vin9 hu (Rg.of (by have : dgN m c u < 3 := Nat.mod_lt _ (by decide); omega) (by decide))

set_option maxHeartbeats 4000000 in
theorem cX_term {G : Gx} (B : Base G) (u w : Nat) (part : Int32) (hu : u < 2 ^ 62) (hw2 : w < 2 ^ 62) (hw : 0 < w) : Cl G yX0_term cX0_term 11 (rmD 0) (fun _ : Unit => []) () [.long (lN u), .long (lN w), .int part] (fun r _ => r = termN u w part) := by
  refine Cl.of B [some (.long (lN u)), none, some (.long (lN w)), none, some (.int part), none, none, none, none, none, none] (by decide) rfl (Nat.le_of_ble_eq_true rfl) (fun E C hR => ?_)
  have C : CxOk E RX0 cX0_term 11 G (rmD 0) := C
  refine r_lload_n (pc := 0) C dX0_term_0 rfl ?_
  refine r_lstore (pc := 1) C dX0_term_1 (by decide) ?_
  refine r_lload_n (pc := 3) C dX0_term_3 rfl ?_
  refine r_lstore (pc := 4) C dX0_term_4 (by decide) ?_
  refine V_wf (P := fun x y => Nat.gcd u w = Nat.gcd x y → 0 < Nat.gcd x y → x < 2 ^ 62 → y < 2 ^ 62 → V E 11 0 0 [] 6 [some (.long (lN u)), none, some (.long (lN w)), none, some (.int part), some (.long (lN x)), none, some (.long (lN y)), none, none, none] []) (fun x y K6 hg hp hx hy => ?_) u w rfl (Nat.gcd_pos_of_pos_right u hw) hu hw2
  · refine r_lload (pc := 6) C dX0_term_6 rfl ?_
    refine r_lconst (pc := 8) 0 C dX0_term_8 (by decide) ?_
    refine r_lcmp (pc := 9) C dX0_term_9 ?_
    refine r_if_eq (pc := 10) 31 C dX0_term_10 (by decide) (fun c10 => ?_) (fun c10 => ?_)
    · have c10 : x = 0 := (lN_z (by omega)).mp c10
      subst c10
      rw [Nat.gcd_zero_left] at hg hp
      refine r_iload (pc := 31) C dX0_term_31 rfl ?_
      refine r_if_ne (pc := 33) 43 C dX0_term_33 (by decide) (fun c33 => ?_) (fun c33 => ?_)
      · refine r_lload_n (pc := 43) C dX0_term_43 rfl ?_
        refine r_lload (pc := 44) C dX0_term_44 rfl ?_
        refine r_ldiv (pc := 46) C dX0_term_46 (fun e => absurd ((pk_lEQ (b := 0) (by omega) (by decide)).mp e) (by omega)) ?_
        exact r_lret (pc := 47) (S := ()) C hR dX0_term_47 (by decide) (by decide) (by rw [termN, if_neg c33, hg, pk_lDiv (by omega) (by omega) (by omega)])
      · refine r_lload_n (pc := 36) C dX0_term_36 rfl ?_
        refine r_lload (pc := 37) C dX0_term_37 rfl ?_
        refine r_ldiv (pc := 39) C dX0_term_39 (fun e => absurd ((pk_lEQ (b := 0) (by omega) (by decide)).mp e) (by omega)) ?_
        refine r_goto (pc := 40) 47 C dX0_term_40 (by decide) ?_
        exact r_lret (pc := 47) (S := ()) C hR dX0_term_47 (by decide) (by decide) (by rw [termN, if_pos c33, hg, pk_lDiv (by omega) (by omega) (by omega)])
    · have c10 : ¬ x = 0 := fun e => c10 ((lN_z (by omega)).mpr e)
      refine r_lload (pc := 13) C dX0_term_13 rfl ?_
      refine r_lload (pc := 15) C dX0_term_15 rfl ?_
      refine r_lrem (pc := 17) C dX0_term_17 (fun e => absurd ((pk_lEQ (b := 0) (by omega) (by decide)).mp e) (by omega)) ?_
      rw [show lN y - lN y / lN x * lN x = lN (y % x) from pk_lRem (by omega) (by omega) (by omega)]
      refine r_lstore (pc := 18) C dX0_term_18 (by decide) ?_
      refine r_lload (pc := 20) C dX0_term_20 rfl ?_
      refine r_lstore (pc := 22) C dX0_term_22 (by decide) ?_
      refine r_lload (pc := 24) C dX0_term_24 rfl ?_
      refine r_lstore (pc := 26) C dX0_term_26 (by decide) ?_
      refine r_goto (pc := 28) 6 C dX0_term_28 (by decide) ?_
      have hx0 : 0 < x := Nat.pos_of_ne_zero c10
      refine V_sub ?_ (K6 (y % x) x (Nat.mod_lt y hx0) (by rw [hg, Nat.gcd_rec]) (by rw [← Nat.gcd_rec]; exact hp) (Nat.lt_of_lt_of_le (Nat.mod_lt y hx0) (Nat.le_of_lt hx)) hx)
      intro q hq
      simp only [lset, lset2, lvo, lkill, List.mem_cons, List.not_mem_nil, or_false] at hq ⊢
      rcases hq with h | h | h | h | h <;> simp [h]

set_option maxHeartbeats 4000000 in
theorem cM_lowest {G : Gx} (B : Base G) (u w : Nat) (part : Int32) (hu : u < 2 ^ 62) (hw2 : w < 2 ^ 62) (hw : 0 < w) : Cl G yX1_lowest cX1_lowest 11 (rmD 0) (fun _ : Unit => []) () [.long (lN u), .long (lN w), .int part] (fun r _ => r = termN u w part) := by
  refine Cl.of B [some (.long (lN u)), none, some (.long (lN w)), none, some (.int part), none, none, none, none, none, none] (by decide) rfl (Nat.le_of_ble_eq_true rfl) (fun E C hR => ?_)
  have C : CxOk E RX1 cX1_lowest 11 G (rmD 0) := C
  refine r_lload_n (pc := 0) C dX1_lowest_0 rfl ?_
  refine r_lstore (pc := 1) C dX1_lowest_1 (by decide) ?_
  refine r_lload_n (pc := 3) C dX1_lowest_3 rfl ?_
  refine r_lstore (pc := 4) C dX1_lowest_4 (by decide) ?_
  refine V_wf (P := fun x y => Nat.gcd u w = Nat.gcd x y → 0 < Nat.gcd x y → x < 2 ^ 62 → y < 2 ^ 62 → V E 11 0 0 [] 6 [some (.long (lN u)), none, some (.long (lN w)), none, some (.int part), some (.long (lN y)), none, some (.long (lN x)), none, none, none] []) (fun x y K6 hg hp hx hy => ?_) w u (Nat.gcd_comm u w) (Nat.gcd_pos_of_pos_left u hw) hw2 hu
  · refine r_lload (pc := 6) C dX1_lowest_6 rfl ?_
    refine r_lconst (pc := 8) 0 C dX1_lowest_8 (by decide) ?_
    refine r_lcmp (pc := 9) C dX1_lowest_9 ?_
    refine r_if_eq (pc := 10) 31 C dX1_lowest_10 (by decide) (fun c10 => ?_) (fun c10 => ?_)
    · have c10 : x = 0 := (lN_z (by omega)).mp c10
      subst c10
      rw [Nat.gcd_zero_left] at hg hp
      refine r_iload (pc := 31) C dX1_lowest_31 rfl ?_
      refine r_if_ne (pc := 33) 43 C dX1_lowest_33 (by decide) (fun c33 => ?_) (fun c33 => ?_)
      · refine r_lload_n (pc := 43) C dX1_lowest_43 rfl ?_
        refine r_lload (pc := 44) C dX1_lowest_44 rfl ?_
        refine r_ldiv (pc := 46) C dX1_lowest_46 (fun e => absurd ((pk_lEQ (b := 0) (by omega) (by decide)).mp e) (by omega)) ?_
        exact r_lret (pc := 47) (S := ()) C hR dX1_lowest_47 (by decide) (by decide) (by rw [termN, if_neg c33, hg, pk_lDiv (by omega) (by omega) (by omega)])
      · refine r_lload_n (pc := 36) C dX1_lowest_36 rfl ?_
        refine r_lload (pc := 37) C dX1_lowest_37 rfl ?_
        refine r_ldiv (pc := 39) C dX1_lowest_39 (fun e => absurd ((pk_lEQ (b := 0) (by omega) (by decide)).mp e) (by omega)) ?_
        refine r_goto (pc := 40) 47 C dX1_lowest_40 (by decide) ?_
        exact r_lret (pc := 47) (S := ()) C hR dX1_lowest_47 (by decide) (by decide) (by rw [termN, if_pos c33, hg, pk_lDiv (by omega) (by omega) (by omega)])
    · have c10 : ¬ x = 0 := fun e => c10 ((lN_z (by omega)).mpr e)
      refine r_lload (pc := 13) C dX1_lowest_13 rfl ?_
      refine r_lload (pc := 15) C dX1_lowest_15 rfl ?_
      refine r_lrem (pc := 17) C dX1_lowest_17 (fun e => absurd ((pk_lEQ (b := 0) (by omega) (by decide)).mp e) (by omega)) ?_
      rw [show lN y - lN y / lN x * lN x = lN (y % x) from pk_lRem (by omega) (by omega) (by omega)]
      refine r_lstore (pc := 18) C dX1_lowest_18 (by decide) ?_
      refine r_lload (pc := 20) C dX1_lowest_20 rfl ?_
      refine r_lstore (pc := 22) C dX1_lowest_22 (by decide) ?_
      refine r_lload (pc := 24) C dX1_lowest_24 rfl ?_
      refine r_lstore (pc := 26) C dX1_lowest_26 (by decide) ?_
      refine r_goto (pc := 28) 6 C dX1_lowest_28 (by decide) ?_
      have hx0 : 0 < x := Nat.pos_of_ne_zero c10
      refine V_sub ?_ (K6 (y % x) x (Nat.mod_lt y hx0) (by rw [hg, Nat.gcd_rec]) (by rw [← Nat.gcd_rec]; exact hp) (Nat.lt_of_lt_of_le (Nat.mod_lt y hx0) (Nat.le_of_lt hx)) hx)
      intro q hq
      simp only [lset, lset2, lvo, lkill, List.mem_cons, List.not_mem_nil, or_false] at hq ⊢
      rcases hq with h | h | h | h | h <;> simp [h]

set_option maxHeartbeats 4000000 in
theorem cX_isMatch {G : Gx} (B : Base G) (a : Nat → Nat) (S : StX) (c : Nat) (hc : c < 27) (hm : Rg (S.1 7) 3) : Ci G yX0_isMatch cX0_isMatch 5 .boolean (rmD 1) (wX G a) S [.ref (a 0), .int (nI c)] (fun r S' => r = x_isM S c ∧ S' = setXa S 16 (dgi (x_m S) c (x_m S) (xar S 16))) := by
  refine Ci.of B [some (.ref (a 0)), some (.int (nI c)), none, none, none] (by decide) rfl (Nat.le_of_ble_eq_true rfl) (fun E C hR => ?_)
  have C : CxOk E RX0 cX0_isMatch 5 G (rmD 1) := C
  have hm3 : x_m S ≤ 3 := hm.2
  have em : S.1 7 = nI (x_m S) := hm.1
  have ec : nI c = nI (c / 3 ^ 0) := by rw [Nat.pow_zero, Nat.div_one]
  refine r_iload_n (pc := 0) C dX0_isMatch_0 rfl ?_
  refine r_istore_n (pc := 1) C dX0_isMatch_1 (by decide) ?_
  refine r_iconst (pc := 2) (0) C dX0_isMatch_2 (by decide) ?_
  refine r_istore_n (pc := 3) C dX0_isMatch_3 (by decide) ?_
  refine r_aload_n (pc := 4) C dX0_isMatch_4 rfl ?_
  refine X_g7 (pc := 5) C dX0_isMatch_5 ?_
  refine r_iconst (pc := 8) (1) C dX0_isMatch_8 (by decide) ?_
  refine r_isub (pc := 9) C dX0_isMatch_9 ?_
  refine r_istore (pc := 10) C dX0_isMatch_10 (by decide) ?_
  rw [em, ec]
  refine V_w (congrArg (wX G a) (dg_0 S (x_m S) c)) ?_
  refine V_cnt (P := fun i => V E 5 0 0 (wX G a (setXa S 16 (dgi (x_m S) c i (xar S 16)))) 12 [some (.ref (a 0)), some (.int (nI (c / 3 ^ 0))), some (.int (nI (c / 3 ^ i))), some (.int (nf (snF c) i 0)), some (.int (nI (x_m S - i) - 1))] []) (x_m S) (fun i hi K12 => ?_) ?_
  · rw [cdec hi]
    refine r_iload (pc := 12) C dX0_isMatch_12 rfl ?_
    refine r_if_lt (pc := 14) 49 C dX0_isMatch_14 (by decide) (fun c14 => ?_) (fun c14 => ?_)
    · exact absurd c14 (nI_pos (by omega))
    · refine r_aload_n (pc := 17) C dX0_isMatch_17 rfl ?_
      refine X_g16 (pc := 18) C dX0_isMatch_18 ?_
      refine r_iload (pc := 21) C dX0_isMatch_21 rfl ?_
      refine r_iload_n (pc := 23) C dX0_isMatch_23 rfl ?_
      refine r_iconst (pc := 24) (3) C dX0_isMatch_24 (by decide) ?_
      refine r_irem (pc := 25) C dX0_isMatch_25 (by decide) ?_
      rw [rem3 hc]
      refine X_s16 (pc := 26) C dX0_isMatch_26 (vp_in_nI (by omega) (by decide)) ?_
      rw [dg_step S _ hm3 hi]
      refine r_iload_n (pc := 27) C dX0_isMatch_27 rfl ?_
      refine r_iconst (pc := 28) (1) C dX0_isMatch_28 (by decide) ?_
      refine r_aload_n (pc := 29) C dX0_isMatch_29 rfl ?_
      refine X_g16 (pc := 30) C dX0_isMatch_30 ?_
      refine r_iload (pc := 33) C dX0_isMatch_33 rfl ?_
      refine X_l16 (pc := 35) C dX0_isMatch_35 (vp_in_nI (by omega) (by decide)) ?_
      rw [dg_read S _ hm3 hi]
      refine r_ishl (pc := 36) C dX0_isMatch_36 ?_
      refine r_ior (pc := 37) C dX0_isMatch_37 ?_
      refine r_istore_n (pc := 38) C dX0_isMatch_38 (by decide) ?_
      refine r_iload_n (pc := 39) C dX0_isMatch_39 rfl ?_
      refine r_iconst (pc := 40) (3) C dX0_isMatch_40 (by decide) ?_
      refine r_idiv (pc := 41) C dX0_isMatch_41 (by decide) ?_
      rw [div3 hc]
      refine r_istore_n (pc := 42) C dX0_isMatch_42 (by decide) ?_
      refine r_iinc (pc := 43) _ C dX0_isMatch_43 rfl cdec2 (by decide) ?_
      refine r_goto (pc := 46) 12 C dX0_isMatch_46 (by decide) ?_
      exact K12
  · refine r_iload (pc := 12) C dX0_isMatch_12 rfl ?_
    refine r_if_lt (pc := 14) 49 C dX0_isMatch_14 (by decide) (fun c14 => ?_) (fun c14 => ?_)
    · refine r_iload_n (pc := 49) C dX0_isMatch_49 rfl ?_
      refine S_cQi (pc := 50) C (cJ_bitCount B _) q565 mJ6_bitCount rfl dX0_isMatch_50 (by decide) (Nat.le_of_ble_eq_true rfl) ?_
      refine r_aload_n (pc := 53) C dX0_isMatch_53 rfl ?_
      refine X_g7 (pc := 54) C dX0_isMatch_54 ?_
      refine r_icmp_ne (pc := 57) 64 C dX0_isMatch_57 (by decide) (fun c57 => ?_) (fun c57 => ?_)
      · refine r_iconst (pc := 64) (0) C dX0_isMatch_64 (by decide) ?_
        exact r_zret (pc := 65) C hR dX0_isMatch_65 (by decide) (by decide) (by decide) ⟨(if_neg c57).symm, rfl⟩
      · refine r_iconst (pc := 60) (1) C dX0_isMatch_60 (by decide) ?_
        refine r_goto (pc := 61) 65 C dX0_isMatch_61 (by decide) ?_
        exact r_zret (pc := 65) C hR dX0_isMatch_65 (by decide) (by decide) (by decide) ⟨(if_pos c57).symm, rfl⟩
    · exact absurd (by rw [Nat.sub_self]; decide) c14


theorem tenthsF_rg (k : Nat) (w h f : Int32) : Rg (tenthsF k w h f) 10 := clampTo_rg (h := 10) (by decide) (by decide)
theorem ms_rg {S : StX} (hI : IX S) {l : Int32} (hl : vp_in l 5) (c : Nat) : ∀ p, p ≤ 3 → Rg (nf (x_ms S l c) p 0) (50 * p) := by
  intro p
  induction p with
  | zero => intro _; exact Rg.of (j := 0) (by omega) (by decide)
  | succ p ih =>
    intro hp
    have h1 := ih (by omega)
    show Rg (nf (x_ms S l c) p 0 + (10 - x_tenthsBy S p l _) * xar S 4 l.toNatClampNeg) (50 * (p + 1))
    have h2 : Rg (x_tenthsBy S p l (xar S 8 (3 * nI p + nI (dgN (x_m S) c p)).toNatClampNeg)) 10 := tenthsF_rg _ _ _ _
    have h3 := hI.blow (vp_lt hl (by decide)).1
    rw [h1.1, h2.1, h3.1]
    have g1 := h1.2
    have g2 := h2.2
    have g3 := h3.2
    generalize (nf (x_ms S l c) p 0).toNatClampNeg = x at g1
    generalize (x_tenthsBy S p l (xar S 8 (3 * nI p + nI (dgN (x_m S) c p)).toNatClampNeg)).toNatClampNeg = y at g2
    generalize (xar S 4 l.toNatClampNeg).toNatClampNeg = z at g3
    rw [show (10 : Int32) = nI 10 from rfl, pk_sub g2, pk_mul, nI_add]
    have h4 : (10 - y) * z ≤ 10 * 5 := Nat.mul_le_mul (by omega) g3
    exact Rg.of (by omega) (by omega)
theorem isM_ex : ∀ m, m ≤ 3 → ∃ c, c < 3 ^ m ∧ jbc (snX m c) = nI m := by
  intro m hm
  rcases (by omega : m = 0 ∨ m = 1 ∨ m = 2 ∨ m = 3) with rfl | rfl | rfl | rfl
  · exact ⟨0, by decide, by decide +kernel⟩
  · exact ⟨0, by decide, by decide +kernel⟩
  · exact ⟨1, by decide, by decide +kernel⟩
  · exact ⟨5, by decide, by decide +kernel⟩
theorem lm_rg {S : StX} (hI : IX S) {l : Int32} (hl : vp_in l 5) : Rg (x_lm S l).1 150 ∧ (x_lm S l).2 < 3 ^ x_m S := by
  have hm3 : x_m S ≤ 3 := hI.many.2
  have hs : ∀ c, Rg (x_msum S l c) 150 := fun c => (ms_rg hI hl c (x_m S) hm3).le (by omega)
  obtain ⟨c0, h0, e0⟩ := isM_ex (x_m S) hm3
  have hM : ¬ x_isM S c0 = 0 := by
    unfold x_isM
    rw [if_pos (by rw [e0]; exact hI.many.1.symm)]
    decide
  have hne : ∀ v, Rg v 150 → ¬ v = -1 := by
    intro v hv e
    subst e
    exact absurd hv.1 (by decide)
  have key : ∀ n, n ≤ 3 ^ x_m S → ((nf (x_lmF S l) n (-1, 0)).1 = -1 ∧ n ≤ c0) ∨ (Rg (nf (x_lmF S l) n (-1, 0)).1 150 ∧ (nf (x_lmF S l) n (-1, 0)).2 < 3 ^ x_m S) := by
    intro n
    induction n with
    | zero => intro _; exact Or.inl ⟨rfl, Nat.zero_le _⟩
    | succ n ih =>
      intro hn
      show ((x_lmF S l n (nf (x_lmF S l) n (-1, 0))).1 = -1 ∧ _) ∨ (Rg (x_lmF S l n (nf (x_lmF S l) n (-1, 0))).1 150 ∧ (x_lmF S l n (nf (x_lmF S l) n (-1, 0))).2 < 3 ^ x_m S)
      have ih := ih (by omega)
      generalize nf (x_lmF S l) n (-1, 0) = q at ih
      unfold x_lmF
      by_cases c1 : x_isM S n = 0
      · rw [if_pos c1]
        rcases ih with h | h
        · refine Or.inl ⟨h.1, ?_⟩
          have : ¬ n = c0 := fun e => hM (e ▸ c1)
          omega
        · exact Or.inr h
      · rw [if_neg c1]
        by_cases c2 : q.1 = -1
        · rw [if_pos c2]
          exact Or.inr ⟨hs n, by show n < _; omega⟩
        · rw [if_neg c2]
          by_cases c3 : q.1 ≤ x_msum S l n
          · rw [if_pos c3]
            rcases ih with h | h
            · exact absurd h.1 c2
            · exact Or.inr h
          · rw [if_neg c3]
            exact Or.inr ⟨hs n, by show n < _; omega⟩
  rcases key (3 ^ x_m S) (Nat.le_refl _) with h | h
  · omega
  · exact h
theorem pw27 {m : Nat} (h : m ≤ 3) : 3 ^ m ≤ 27 := by
  rcases (by omega : m = 0 ∨ m = 1 ∨ m = 2 ∨ m = 3) with rfl | rfl | rfl | rfl <;> decide
def x_tellMatch (S : StX) (l w : Int32) : Int32 := if w ≤ 9 then (termN (x_lm S l).1.toNatClampNeg 10 w).toInt32 else if S.1 7 ≤ w - 10 then -1 else nI (dgN (x_m S) (x_lm S l).2 (w - 10).toNatClampNeg)
def x_match (S : StX) (l w : Int32) : Int32 := if x_isLesson S l = 0 then -101 else if jin w 0 1 = 0 then (if jin w 10 12 = 0 then -102 else x_tellMatch S l w) else x_tellMatch S l w

set_option maxHeartbeats 4000000 in
theorem cX_layMatch {G : Gx} (B : Base G) (a : Nat → Nat) (S : StX) (l : Int32) (hI : IX S) (hl : vp_in l 5) : Ci G yX0_layMatch cX0_layMatch 7 .int (rmD 4) (wX G a) S [.ref (a 0), .int l] (fun r S' => r = (x_lm S l).1 ∧ ∃ j b, S' = x_sc S j b ∧ BmOk S (x_lm S l) b) := by
  refine Ci.of B [some (.ref (a 0)), some (.int l), none, none, none, none, none] (by decide) rfl (Nat.le_of_ble_eq_true rfl) (fun E C hR => ?_)
  have C : CxOk E RX0 cX0_layMatch 7 G (rmD 4) := C
  have em : S.1 7 = nI (x_m S) := hI.many.1
  have hm3 : x_m S ≤ 3 := hI.many.2
  have h27 := pw27 hm3
  refine r_iconst (pc := 0) (1) C dX0_layMatch_0 (by decide) ?_
  refine r_istore_n (pc := 1) C dX0_layMatch_1 (by decide) ?_
  refine r_iconst (pc := 2) (0) C dX0_layMatch_2 (by decide) ?_
  refine r_istore_n (pc := 3) C dX0_layMatch_3 (by decide) ?_
  refine V_cnt (P := fun i => V E 7 0 0 (wX G a S) 4 [some (.ref (a 0)), some (.int l), some (.int (nI (3 ^ i))), some (.int (nI i)), none, none, none] []) (x_m S) (fun i hi K4 => ?_) ?_
  · refine r_iload_n (pc := 4) C dX0_layMatch_4 rfl ?_
    refine r_aload_n (pc := 5) C dX0_layMatch_5 rfl ?_
    refine X_g7 (pc := 6) C dX0_layMatch_6 ?_
    refine r_icmp_ge (pc := 9) 22 C dX0_layMatch_9 (by decide) (fun c9 => ?_) (fun c9 => ?_)
    · rw [em] at c9
      exact absurd c9 (nI_ge hi (by omega))
    · refine r_iload_n (pc := 12) C dX0_layMatch_12 rfl ?_
      refine r_iconst (pc := 13) (3) C dX0_layMatch_13 (by decide) ?_
      refine r_imul (pc := 14) C dX0_layMatch_14 ?_
      rw [show nI (3 ^ i) * 3 = nI (3 ^ (i + 1)) from by rw [show (3 : Int32) = nI 3 from rfl, pk_mul, Nat.pow_succ]]
      refine r_istore_n (pc := 15) C dX0_layMatch_15 (by decide) ?_
      refine r_iinc (pc := 16) _ C dX0_layMatch_16 rfl (nI_1 i) (by decide) ?_
      refine r_goto (pc := 19) 4 C dX0_layMatch_19 (by decide) ?_
      exact K4
  · refine r_iload_n (pc := 4) C dX0_layMatch_4 rfl ?_
    refine r_aload_n (pc := 5) C dX0_layMatch_5 rfl ?_
    refine X_g7 (pc := 6) C dX0_layMatch_6 ?_
    refine r_icmp_ge (pc := 9) 22 C dX0_layMatch_9 (by decide) (fun c9 => ?_) (fun c9 => ?_)
    · refine r_iconst (pc := 22) (-1) C dX0_layMatch_22 (by decide) ?_
      refine r_istore_n (pc := 23) C dX0_layMatch_23 (by decide) ?_
      refine r_iconst (pc := 24) (0) C dX0_layMatch_24 (by decide) ?_
      refine r_istore (pc := 25) C dX0_layMatch_25 (by decide) ?_
      refine V_w (congrArg (wX G a) (x_sc_id S).symm) ?_
      refine V_cnt (P := fun i => ∀ j b, BmOk S (nf (x_lmF S l) i (-1, 0)) b → V E 7 0 0 (wX G a (x_sc S j b)) 27 [some (.ref (a 0)), some (.int l), some (.int (nI (3 ^ x_m S))), some (.int (nf (x_lmF S l) i (-1, 0)).1), some (.int (nI i)), none, none] []) (3 ^ x_m S) (fun c hc K27 j b hb => ?_) (fun j b hb => ?_) _ _ (Or.inl rfl)
      · simp only [nf] at K27
        generalize nf (x_lmF S l) c (-1, 0) = q at K27 hb ⊢
        refine r_iload (pc := 27) C dX0_layMatch_27 rfl ?_
        refine r_iload_n (pc := 29) C dX0_layMatch_29 rfl ?_
        refine r_icmp_ge (pc := 30) 141 C dX0_layMatch_30 (by decide) (fun c30 => ?_) (fun c30 => ?_)
        · exact absurd c30 (nI_ge hc (by omega))
        · refine r_aload_n (pc := 33) C dX0_layMatch_33 rfl ?_
          refine r_iload (pc := 34) C dX0_layMatch_34 rfl ?_
          refine X_cQi (pc := 36) C (cX_isMatch B a (x_sc S j b) c (by omega) hI.many) q598 mX0_isMatch rfl dX0_layMatch_36 (by decide) (Nat.le_of_ble_eq_true rfl) ?_
          rw [x_sc16]
          generalize hg : dgi (x_m (x_sc S j b)) c (x_m (x_sc S j b)) (xar (x_sc S j b) 16) = g
          have hgp : ∀ p, p < x_m S → g p = nI (dgN (x_m S) c p) := fun p hp => by rw [← hg]; exact if_pos ⟨by rw [show x_m (x_sc S j b) = x_m S from rfl]; omega, hp⟩
          refine r_if_eq (pc := 39) 135 C dX0_layMatch_39 (by decide) (fun c39 => ?_) (fun c39 => ?_)
          · have c39 : x_isM S c = 0 := c39
            refine r_iinc (pc := 135) _ C dX0_layMatch_135 rfl (nI_1 c) (by decide) ?_
            refine r_goto (pc := 138) 27 C dX0_layMatch_138 (by decide) ?_
            rw [show x_lmF S l c q = q from if_pos c39] at K27
            exact K27 g b hb
          · have c39 : ¬ x_isM S c = 0 := c39
            refine r_iconst (pc := 42) (0) C dX0_layMatch_42 (by decide) ?_
            refine r_istore (pc := 43) C dX0_layMatch_43 (by decide) ?_
            refine r_iconst (pc := 45) (0) C dX0_layMatch_45 (by decide) ?_
            refine r_istore (pc := 46) C dX0_layMatch_46 (by decide) ?_
            refine V_for (P := fun i z => V E 7 0 0 (wX G a (x_sc S g b)) 48 [some (.ref (a 0)), some (.int l), some (.int (nI (3 ^ x_m S))), some (.int q.1), some (.int (nI c)), some (.int z), some (.int (nI i))] []) (x_ms S l c) 0 (x_m S) (fun i hi K48 => ?_) ?_
            · have huS : i < S.2.2.2.1 := Nat.lt_of_lt_of_le hi hI.mnp
              have hu3 : i < 3 := Nat.lt_of_lt_of_le huS hI.np
              have hIZ : IX (x_sc S g b) := hI
              have huZ : i < xnp (x_sc S g b) := huS
              have hk5 := hI.k5 huS
              refine r_iload (pc := 48) C dX0_layMatch_48 rfl ?_
              refine r_aload_n (pc := 50) C dX0_layMatch_50 rfl ?_
              refine X_g7 (pc := 51) C dX0_layMatch_51 ?_
              refine r_icmp_ge (pc := 54) 107 C dX0_layMatch_54 (by decide) (fun c54 => ?_) (fun c54 => ?_)
              · have c54 : S.1 7 ≤ nI i := c54
                rw [em] at c54
                exact absurd c54 (nI_ge hi (by omega))
              · refine r_iload (pc := 57) C dX0_layMatch_57 rfl ?_
                refine r_bipush (pc := 59) (10) C dX0_layMatch_59 (by decide) ?_
                refine r_aload_n (pc := 61) C dX0_layMatch_61 rfl ?_
                refine r_aload_n (pc := 62) C dX0_layMatch_62 rfl ?_
                refine X_g6 (pc := 63) C dX0_layMatch_63 ?_
                refine r_iload (pc := 66) C dX0_layMatch_66 rfl ?_
                refine X_l6 (pc := 68) C dX0_layMatch_68 rfl huZ hu3 ?_
                refine r_iload_n (pc := 69) C dX0_layMatch_69 rfl ?_
                refine r_aload_n (pc := 70) C dX0_layMatch_70 rfl ?_
                refine X_g8 (pc := 71) C dX0_layMatch_71 ?_
                refine r_iconst (pc := 74) (3) C dX0_layMatch_74 (by decide) ?_
                refine r_iload (pc := 75) C dX0_layMatch_75 rfl ?_
                refine r_imul (pc := 77) C dX0_layMatch_77 ?_
                refine r_aload_n (pc := 78) C dX0_layMatch_78 rfl ?_
                refine X_g16 (pc := 79) C dX0_layMatch_79 ?_
                refine r_iload (pc := 82) C dX0_layMatch_82 rfl ?_
                refine X_l16 (pc := 84) C dX0_layMatch_84 (vp_in_nI hu3 (by decide)) ?_
                rw [show (x_sc S g b).2.2.1 16 (nI i).toNatClampNeg = nI (dgN (x_m S) c i) from by rw [nI_clamp (by omega)]; exact hgp i hi]
                refine r_iadd (pc := 85) C dX0_layMatch_85 ?_
                refine X_l8 (pc := 86) C dX0_layMatch_86 (vin9d hu3) ?_
                refine X_cQi (pc := 87) C (cX_tenthsBy B a (x_sc S g b) i _ _ hIZ huZ hl) q527 mX0_tenthsBy rfl dX0_layMatch_87 (by decide) (Nat.le_of_ble_eq_true rfl) ?_
                refine r_isub (pc := 90) C dX0_layMatch_90 ?_
                refine r_aload_n (pc := 91) C dX0_layMatch_91 rfl ?_
                refine X_g4 (pc := 92) C dX0_layMatch_92 ?_
                refine r_iload_n (pc := 95) C dX0_layMatch_95 rfl ?_
                refine X_l4 (pc := 96) C dX0_layMatch_96 (by assumption) ?_
                refine r_imul (pc := 97) C dX0_layMatch_97 ?_
                refine r_iadd (pc := 98) C dX0_layMatch_98 ?_
                refine r_istore (pc := 99) C dX0_layMatch_99 (by decide) ?_
                refine r_iinc (pc := 101) _ C dX0_layMatch_101 rfl (nI_1 i) (by decide) ?_
                refine r_goto (pc := 104) 48 C dX0_layMatch_104 (by decide) ?_
                exact K48
            · refine r_iload (pc := 48) C dX0_layMatch_48 rfl ?_
              refine r_aload_n (pc := 50) C dX0_layMatch_50 rfl ?_
              refine X_g7 (pc := 51) C dX0_layMatch_51 ?_
              refine r_icmp_ge (pc := 54) 107 C dX0_layMatch_54 (by decide) (fun c54 => ?_) (fun c54 => ?_)
              · refine r_iload_n (pc := 107) C dX0_layMatch_107 rfl ?_
                refine r_iconst (pc := 108) (-1) C dX0_layMatch_108 (by decide) ?_
                refine r_icmp_eq (pc := 109) 118 C dX0_layMatch_109 (by decide) (fun c109 => ?_) (fun c109 => ?_)
                · refine r_iload (pc := 118) C dX0_layMatch_118 rfl ?_
                  refine r_istore_n (pc := 120) C dX0_layMatch_120 (by decide) ?_
                  refine r_aload_n (pc := 121) C dX0_layMatch_121 rfl ?_
                  refine X_g16 (pc := 122) C dX0_layMatch_122 ?_
                  refine r_iconst (pc := 125) (0) C dX0_layMatch_125 (by decide) ?_
                  refine r_aload_n (pc := 126) C dX0_layMatch_126 rfl ?_
                  refine X_g17 (pc := 127) C dX0_layMatch_127 ?_
                  refine r_iconst (pc := 130) (0) C dX0_layMatch_130 (by decide) ?_
                  refine r_iconst (pc := 131) (3) C dX0_layMatch_131 (by decide) ?_
                  refine X_c16_17 (pc := 132) C dX0_layMatch_132 (by decide) (Nat.le_of_ble_eq_true rfl) (V_w (congrArg (wX G a) (x_sc17 S g b g)) ?_)
                  refine r_iinc (pc := 135) _ C dX0_layMatch_135 rfl (nI_1 c) (by decide) ?_
                  refine r_goto (pc := 138) 27 C dX0_layMatch_138 (by decide) ?_
                  rw [show x_lmF S l c q = (x_msum S l c, c) from (if_neg c39).trans (if_pos c109)] at K27
                  refine V_sub ?_ (K27 g g (Or.inr hgp))
                  intro q1 hq1
                  simp only [lset, lset2, lvo, lkill, List.mem_cons, List.not_mem_nil, or_false] at hq1 ⊢
                  rcases hq1 with h | h | h | h | h <;> simp [h, x_msum]
                · refine r_iload (pc := 112) C dX0_layMatch_112 rfl ?_
                  refine r_iload_n (pc := 114) C dX0_layMatch_114 rfl ?_
                  refine r_icmp_ge (pc := 115) 135 C dX0_layMatch_115 (by decide) (fun c115 => ?_) (fun c115 => ?_)
                  · refine r_iinc (pc := 135) _ C dX0_layMatch_135 rfl (nI_1 c) (by decide) ?_
                    refine r_goto (pc := 138) 27 C dX0_layMatch_138 (by decide) ?_
                    rw [show x_lmF S l c q = q from (if_neg c39).trans ((if_neg c109).trans (if_pos c115))] at K27
                    refine V_sub ?_ (K27 g b hb)
                    intro q1 hq1
                    simp only [lset, lset2, lvo, lkill, List.mem_cons, List.not_mem_nil, or_false] at hq1 ⊢
                    rcases hq1 with h | h | h | h | h <;> simp [h, x_msum]
                  · refine r_iload (pc := 118) C dX0_layMatch_118 rfl ?_
                    refine r_istore_n (pc := 120) C dX0_layMatch_120 (by decide) ?_
                    refine r_aload_n (pc := 121) C dX0_layMatch_121 rfl ?_
                    refine X_g16 (pc := 122) C dX0_layMatch_122 ?_
                    refine r_iconst (pc := 125) (0) C dX0_layMatch_125 (by decide) ?_
                    refine r_aload_n (pc := 126) C dX0_layMatch_126 rfl ?_
                    refine X_g17 (pc := 127) C dX0_layMatch_127 ?_
                    refine r_iconst (pc := 130) (0) C dX0_layMatch_130 (by decide) ?_
                    refine r_iconst (pc := 131) (3) C dX0_layMatch_131 (by decide) ?_
                    refine X_c16_17 (pc := 132) C dX0_layMatch_132 (by decide) (Nat.le_of_ble_eq_true rfl) (V_w (congrArg (wX G a) (x_sc17 S g b g)) ?_)
                    refine r_iinc (pc := 135) _ C dX0_layMatch_135 rfl (nI_1 c) (by decide) ?_
                    refine r_goto (pc := 138) 27 C dX0_layMatch_138 (by decide) ?_
                    rw [show x_lmF S l c q = (x_msum S l c, c) from (if_neg c39).trans ((if_neg c109).trans (if_neg c115))] at K27
                    refine V_sub ?_ (K27 g g (Or.inr hgp))
                    intro q1 hq1
                    simp only [lset, lset2, lvo, lkill, List.mem_cons, List.not_mem_nil, or_false] at hq1 ⊢
                    rcases hq1 with h | h | h | h | h <;> simp [h, x_msum]
              · exact absurd (show S.1 7 ≤ nI (x_m S) by rw [em]; exact Int32.le_refl _) c54
      · refine r_iload (pc := 27) C dX0_layMatch_27 rfl ?_
        refine r_iload_n (pc := 29) C dX0_layMatch_29 rfl ?_
        refine r_icmp_ge (pc := 30) 141 C dX0_layMatch_30 (by decide) (fun c30 => ?_) (fun c30 => ?_)
        · refine r_iload_n (pc := 141) C dX0_layMatch_141 rfl ?_
          exact r_iret (pc := 142) C hR dX0_layMatch_142 (by decide) (by decide) ⟨rfl, j, b, rfl, hb⟩
        · exact absurd (Int32.le_refl _) c30
    · exact absurd (by rw [em]; exact Int32.le_refl _) c9

theorem tm_in {w m : Int32} (hm : Rg m 3) (hw : ¬ jin w 0 1 = 0 ∨ ¬ jin w 10 12 = 0) (h9 : ¬ w ≤ 9) (h : ¬ m ≤ w - 10) : vp_in (w - 10) 3 ∧ (w - 10).toNatClampNeg < m.toNatClampNeg := by
  have hw : ¬ jin w 10 12 = 0 := by
    rcases hw with h1 | h1
    · obtain ⟨-, h2⟩ := jin_ne0.mp h1
      exact absurd (Int32.le_trans h2 (by decide)) h9
    · exact h1
  obtain ⟨h1, h2⟩ := jin_ne0.mp hw
  obtain ⟨k, hk, rfl⟩ := nI_of2 (x := w) (M := 12) (n := 12) rfl (Int32.not_lt.mpr (Int32.le_trans (by decide) h1)) h2
  have h3 : 10 ≤ k := (nI_leI (a := 10) (by decide) (by omega)).mp h1
  rw [show (10 : Int32) = nI 10 from rfl, pk_sub h3] at h ⊢
  have h4 := nlt_of hm (by decide) (by omega) h
  rw [nI_clamp (by omega)]
  exact ⟨vp_in_nI (by omega) (by decide), h4⟩
set_option maxHeartbeats 4000000 in
theorem cX_tellMatch {G : Gx} (B : Base G) (a : Nat → Nat) (S : StX) (l w : Int32) (hI : IX S) (hl : vp_in l 5) (hw : ¬ jin w 0 1 = 0 ∨ ¬ jin w 10 12 = 0) : Ci G yX0_tellMatch cX0_tellMatch 4 .int (rmD 5) (wX G a) S [.ref (a 0), .int l, .int w] (fun r S' => r = x_tellMatch S l w ∧ ∃ j b, S' = x_sc S j b) := by
  refine Ci.of B [some (.ref (a 0)), some (.int l), some (.int w), none] (by decide) rfl (Nat.le_of_ble_eq_true rfl) (fun E C hR => ?_)
  have C : CxOk E RX0 cX0_tellMatch 4 G (rmD 5) := C
  refine r_aload_n (pc := 0) C dX0_tellMatch_0 rfl ?_
  refine r_iload_n (pc := 1) C dX0_tellMatch_1 rfl ?_
  refine X_cIi (pc := 2) C (cX_layMatch B a _ _ (by assumption) (by assumption)) q594 mX0_layMatch rfl dX0_tellMatch_2 (by decide) (Nat.le_of_ble_eq_true rfl) (fun r1 S1 h1 => ?_)
  obtain ⟨rfl, j, b, rfl, hb⟩ := h1
  obtain ⟨hM1, hM2⟩ := lm_rg hI hl
  refine r_istore_n (pc := 5) C dX0_tellMatch_5 (by decide) ?_
  refine r_iload_n (pc := 6) C dX0_tellMatch_6 rfl ?_
  refine r_bipush (pc := 7) (9) C dX0_tellMatch_7 (by decide) ?_
  refine r_icmp_le (pc := 9) 37 C dX0_tellMatch_9 (by decide) (fun c9 => ?_) (fun c9 => ?_)
  · have hw3 := hM1.2
    refine r_iload_n (pc := 37) C dX0_tellMatch_37 rfl ?_
    refine r_i2l (pc := 38) C dX0_tellMatch_38 ?_
    rw [hM1.1, nI_l (by omega)]
    refine r_ldc2 (pc := 39) C dX0_tellMatch_39 q374 ?_
    refine r_iload_n (pc := 42) C dX0_tellMatch_42 rfl ?_
    refine S_cQl (pc := 43) C (cX_term B _ 10 _ (by omega) (by decide) (by decide)) q583 mX0_term rfl dX0_tellMatch_43 (by decide) (Nat.le_of_ble_eq_true rfl) ?_
    refine r_l2i (pc := 46) C dX0_tellMatch_46 ?_
    exact r_iret (pc := 47) C hR dX0_tellMatch_47 (by decide) (by decide) ⟨by rw [x_tellMatch, if_pos c9], j, b, rfl⟩
  · have hw3 := hM1.2
    refine r_iload_n (pc := 12) C dX0_tellMatch_12 rfl ?_
    refine r_bipush (pc := 13) (10) C dX0_tellMatch_13 (by decide) ?_
    refine r_isub (pc := 15) C dX0_tellMatch_15 ?_
    refine r_aload_n (pc := 16) C dX0_tellMatch_16 rfl ?_
    refine X_g7 (pc := 17) C dX0_tellMatch_17 ?_
    refine r_icmp_ge (pc := 20) 35 C dX0_tellMatch_20 (by decide) (fun c20 => ?_) (fun c20 => ?_)
    · refine r_iconst (pc := 35) (-1) C dX0_tellMatch_35 (by decide) ?_
      exact r_iret (pc := 36) C hR dX0_tellMatch_36 (by decide) (by decide) ⟨by rw [x_tellMatch, if_neg c9, if_pos (show S.1 7 ≤ w - 10 from c20)], j, b, rfl⟩
    · have hv := tm_in hI.many hw c9 c20
      refine r_aload_n (pc := 23) C dX0_tellMatch_23 rfl ?_
      refine X_g17 (pc := 24) C dX0_tellMatch_24 ?_
      refine r_iload_n (pc := 27) C dX0_tellMatch_27 rfl ?_
      refine r_bipush (pc := 28) (10) C dX0_tellMatch_28 (by decide) ?_
      refine r_isub (pc := 30) C dX0_tellMatch_30 ?_
      refine X_l17 (pc := 31) C dX0_tellMatch_31 hv.1 ?_
      refine r_goto (pc := 32) 36 C dX0_tellMatch_32 (by decide) ?_
      exact r_iret (pc := 36) C hR dX0_tellMatch_36 (by decide) (by decide) ⟨by rw [x_tellMatch, if_neg c9, if_neg (show ¬ S.1 7 ≤ w - 10 from c20)]; exact (hb.resolve_left (fun e => absurd (e ▸ hM1.1) (by decide))) _ hv.2, j, b, rfl⟩

set_option maxHeartbeats 4000000 in
theorem cX_match {G : Gx} (B : Base G) (a : Nat → Nat) (S : StX) (l w : Int32) (hI : IX S) : Ci G yX0_match cX0_match 3 .int (rmD 6) (wX G a) S [.ref (a 0), .int l, .int w] (fun r S' => r = x_match S l w ∧ ∃ j b, S' = x_sc S j b) := by
  refine Ci.of B [some (.ref (a 0)), some (.int l), some (.int w)] (by decide) rfl (Nat.le_of_ble_eq_true rfl) (fun E C hR => ?_)
  have C : CxOk E RX0 cX0_match 3 G (rmD 6) := C
  refine r_aload_n (pc := 0) C dX0_match_0 rfl ?_
  refine r_iload_n (pc := 1) C dX0_match_1 rfl ?_
  refine X_cQi (pc := 2) C (cX_isLesson B a _ _) q242 mX0_isLesson rfl dX0_match_2 (by decide) (Nat.le_of_ble_eq_true rfl) ?_
  refine r_if_ne (pc := 5) 11 C dX0_match_5 (by decide) (fun c5 => ?_) (fun c5 => ?_)
  · have hl := hI.ls c5
    refine r_iload_n (pc := 11) C dX0_match_11 rfl ?_
    refine r_i2l (pc := 12) C dX0_match_12 ?_
    refine r_lconst (pc := 13) 0 C dX0_match_13 (by decide) ?_
    refine r_lconst (pc := 14) 1 C dX0_match_14 (by decide) ?_
    refine S_cQi (pc := 15) C (cX_isIn32 B _ 0 1) q211 mX0_isIn rfl dX0_match_15 (by decide) (Nat.le_of_ble_eq_true rfl) ?_
    refine r_if_ne (pc := 18) 35 C dX0_match_18 (by decide) (fun c18 => ?_) (fun c18 => ?_)
    · have hw : ¬ jin w 0 1 = 0 ∨ ¬ jin w 10 12 = 0 := Or.inl c18
      refine r_aload_n (pc := 35) C dX0_match_35 rfl ?_
      refine r_iload_n (pc := 36) C dX0_match_36 rfl ?_
      refine r_iload_n (pc := 37) C dX0_match_37 rfl ?_
      refine X_cIi (pc := 38) C (cX_tellMatch B a _ _ _ (by assumption) (by assumption) (by assumption)) q590 mX0_tellMatch rfl dX0_match_38 (by decide) (Nat.le_of_ble_eq_true rfl) (fun r1 S1 h1 => ?_)
      obtain ⟨rfl, j, b, rfl⟩ := h1
      refine r_goto (pc := 41) 46 C dX0_match_41 (by decide) ?_
      exact r_iret (pc := 46) C hR dX0_match_46 (by decide) (by decide) ⟨by rw [x_match, if_neg c5, if_neg c18], j, b, rfl⟩
    · refine r_iload_n (pc := 21) C dX0_match_21 rfl ?_
      refine r_i2l (pc := 22) C dX0_match_22 ?_
      refine r_ldc2 (pc := 23) C dX0_match_23 q374 ?_
      refine r_ldc2 (pc := 26) C dX0_match_26 q375 ?_
      refine S_cQi (pc := 29) C (cX_isIn32 B _ 10 12) q211 mX0_isIn rfl dX0_match_29 (by decide) (Nat.le_of_ble_eq_true rfl) ?_
      refine r_if_eq (pc := 32) 44 C dX0_match_32 (by decide) (fun c32 => ?_) (fun c32 => ?_)
      · refine r_bipush (pc := 44) (-102) C dX0_match_44 (by decide) ?_
        exact r_iret (pc := 46) C hR dX0_match_46 (by decide) (by decide) ⟨by rw [x_match, if_neg c5, if_pos c18, if_pos c32], xar S 16, xar S 17, (x_sc_id S).symm⟩
      · have hw : ¬ jin w 0 1 = 0 ∨ ¬ jin w 10 12 = 0 := Or.inr c32
        refine r_aload_n (pc := 35) C dX0_match_35 rfl ?_
        refine r_iload_n (pc := 36) C dX0_match_36 rfl ?_
        refine r_iload_n (pc := 37) C dX0_match_37 rfl ?_
        refine X_cIi (pc := 38) C (cX_tellMatch B a _ _ _ (by assumption) (by assumption) (by assumption)) q590 mX0_tellMatch rfl dX0_match_38 (by decide) (Nat.le_of_ble_eq_true rfl) (fun r1 S1 h1 => ?_)
        obtain ⟨rfl, j, b, rfl⟩ := h1
        refine r_goto (pc := 41) 46 C dX0_match_41 (by decide) ?_
        exact r_iret (pc := 46) C hR dX0_match_46 (by decide) (by decide) ⟨by rw [x_match, if_neg c5, if_pos c18, if_neg c32], j, b, rfl⟩
  · refine r_bipush (pc := 8) (-101) C dX0_match_8 (by decide) ?_
    exact r_iret (pc := 10) C hR dX0_match_10 (by decide) (by decide) ⟨by rw [x_match, if_pos c5], xar S 16, xar S 17, (x_sc_id S).symm⟩

