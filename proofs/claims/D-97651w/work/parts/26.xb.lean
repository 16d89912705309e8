
set_option maxRecDepth 100000
section VE
variable {E : Cx} {own : String} {cc : ByteArray} {nL k n : Nat} {G : Gx} {rm : Room} {w : va_W} {pc : Nat} {ls : List (Option Value)} {st : List Value}
theorem r_ldc_w {i : Nat} {v : Int32} (C : CxOk E own cc nL G rm) (hd : decode cc pc = .ok (.ldc_w i, 3)) (hc : Jvm.Cond.constant own i v ∈ lw_all) (K : V E nL k n w (pc + 3) ls (.int v :: st)) : V E nL k n w pc ls st := by
  obtain ⟨p, l, e, R, s, m, args, below, meth, c, Q, A, G'⟩ := E
  exact fun H locs arr hP hD hS hl => lv_ldcw C.1 C.2.1 C.2.2.2.1 (C.2.2.2.2.1 _ hc) hd (K H locs arr hP hD hS hl)
end VE
def jrem (x y : Int32) : Int32 := x - x / y * y
def jsh (x y : Int32) : Int32 := (x.toUInt32 >>> (y.toUInt32 &&& Int32.toUInt32 31)).toInt32
def jbc1 (x : Int32) : Int32 := x - (jsh x 1 &&& 1431655765)
def jbc2 (x : Int32) : Int32 := (x &&& 858993459) + (jsh x 2 &&& 858993459)
def jbc3 (x : Int32) : Int32 := (x + jsh x 4) &&& 252645135
def jbc4 (x : Int32) : Int32 := x + jsh x 8
def jbc5 (x : Int32) : Int32 := x + jsh x 16
def jbc (x : Int32) : Int32 := jbc5 (jbc4 (jbc3 (jbc2 (jbc1 x)))) &&& 63
def drawV (d : Int32) : Int32 := (1103515245 * d.toInt64 + 12345 &&& 2147483647).toInt32
def x_hear (S : StX) (p l b : Int32) : Int32 × StX := if x_isPrince S p = 0 then (-101, S) else if x_isLesson S l = 0 then (-101, S) else if S.1 21 = 6 then (-104, S) else (S.1 21 + 1, setXi (setXa (setXa (setXa S 18 (upd (xar S 18) (S.1 21).toNatClampNeg p)) 19 (upd (xar S 19) (S.1 21).toNatClampNeg l)) 20 (upd (xar S 20) (S.1 21).toNatClampNeg (vp_nar .boolean b))) 21 (S.1 21 + 1))
def x_cb (S : StX) (u : Nat) (f : Int32) (i : Nat) (z : Int32) : Int32 := z &&& (if xar S 18 i = nI u then (if xar S 20 i = 0 then (if x_tenthsBy S u (xar S 19 i) f = 10 then 0 else 1) else (if x_tenthsBy S u (xar S 19 i) f = 0 then 0 else 1)) else 1)
def x_canBe (S : StX) (u : Nat) (f : Int32) : Int32 := nf (x_cb S u f) (S.1 21).toNatClampNeg 1
def x_fb (S : StX) (u : Nat) (i : Nat) (z : Int32) : Int32 := z ||| (if x_canBe S u (nI i) = 0 then 0 else (1 : Int32) <<< (nI i &&& 31))
def x_fondnessOf (S : StX) (u : Nat) : Int32 := nf (x_fb S u) 10 0
def x_fondness (S : StX) (p : Int32) : Int32 := if x_isPrince S p = 0 then -101 else x_fondnessOf S p.toNatClampNeg
def x_drawS (S : StX) : StX := setXi S 22 (drawV (S.1 22))
def x_drawR (S : StX) (m : Int32) : Int32 := jrem (drawV (S.1 22) / 65536) m
def x_la (S : StX) (i : Nat) (z : Int32) : Int32 := z + jbc (xpf S i 3)
def x_learntAll (S : StX) : Int32 := nf (x_la S) (S.1 7).toNatClampNeg 0
def x_sa (S : StX) (i : Nat) (z : Int32) : Int32 := z + xar S 5 i
def x_stripesAll (S : StX) : Int32 := nf (x_sa S) 3 0
def x_so (u : Nat) (i : Nat) (Z : StX) : StX := if jhas (xpf Z u 3) (nI i) = 0 then x_taught (x_drawS Z) u (nI i) (if x_tenthsOf (x_drawS Z) u (nI i) ≤ x_drawR Z 10 then 0 else 1) else Z
def x_schoolOf (S : StX) (u : Nat) : StX := nf (x_so u) (S.1 0).toNatClampNeg S
def x_count (S : StX) (w : Int32) : Int32 := if w = 0 then S.1 0 else if w = 1 then S.1 1 else if w = 2 then S.1 7 else if w = 3 then x_stripesAll S else if w = 4 then x_learntAll S else if w = 5 then S.1 21 else if w = 6 then S.1 10 else if w = 7 then S.1 2 else if w = 8 then S.1 11 else -102
def x_note (S : StX) (v : Int64) : StX := setXl S 34 (31 * S.2.1 34 + v)
theorem and_01 {z y : Int32} (h : z = 0 ∨ z = 1) (g : y = 0 ∨ y = 1) : (z &&& y) = 0 ∨ (z &&& y) = 1 := by
  rcases h with rfl | rfl <;> rcases g with rfl | rfl <;> decide
theorem x_cb_01 (S : StX) (u : Nat) (f : Int32) (n : Nat) : nf (x_cb S u f) n 1 = 0 ∨ nf (x_cb S u f) n 1 = 1 := by
  induction n with
  | zero => exact Or.inr rfl
  | succ n ih =>
    refine and_01 ih ?_
    split
    · split <;> split <;> simp
    · exact Or.inr rfl
theorem Rg.le {v : Int32} {n m : Nat} (h : Rg v n) (hm : n ≤ m) : Rg v m := ⟨h.1, Nat.le_trans h.2 hm⟩
theorem clampTo_rg {h : Nat} {v : Int32} (h0 : 0 < h) (hh : h < 2 ^ 30) : Rg (clampTo (nI h) v) h := by
  unfold clampTo
  have key : (if v < nI h then v else nI h) ≤ nI h := by
    split
    · exact Int32.le_of_lt (by assumption)
    · exact Int32.le_refl _
  generalize (if v < nI h then v else nI h) = q at key
  by_cases hq : 0 < q
  · rw [if_pos hq]
    obtain ⟨j, hj, rfl⟩ := nI_of2 (x := q) (M := nI h) (n := h) (nI_toInt (by omega)) (fun c => Int32.lt_irrefl (Int32.lt_trans c hq)) key
    exact Rg.of hj (by omega)
  · rw [if_neg hq]
    exact Rg.of (j := 0) (by omega) (by omega)
theorem fondNext_rg (lim f s : Int32) : Rg (fondNext lim f s) 9 := clampTo_rg (h := 9) (by decide) (by decide)
theorem learn_rg0 : ∀ a, a < 32 → ∀ j, j < 5 → (nI a ||| (1 : Int32) <<< (nI j &&& 31)) = nI (nI a ||| (1 : Int32) <<< (nI j &&& 31)).toNatClampNeg ∧ (nI a ||| (1 : Int32) <<< (nI j &&& 31)).toNatClampNeg ≤ 31 := by decide +kernel
theorem learn_rg {v l : Int32} (h : Rg v 31) (hl : vp_in l 5) : Rg (v ||| (1 : Int32) <<< (l &&& 31)) 31 := by
  obtain ⟨j, hj, rfl⟩ := vp_in_of hl (by decide)
  rw [h.1]
  exact learn_rg0 _ (by have := h.2; omega) j hj
theorem IX_taught {S : StX} (hI : IX S) {u : Nat} (hu : u < xnp S) {l b : Int32} (hl : vp_in l 5) : IX (x_taught S u l b) := by
  unfold x_taught
  split
  · obtain ⟨h1, h2, h3, h4, h5, h6, h7⟩ := hI
    refine ⟨h1, h2, h3, h4, h5, fun j hj => ⟨?_, (h6 j hj).2⟩, h7⟩
    show Rg (upd (xar S 8) _ _ j) 9
    unfold upd
    split
    · exact fondNext_rg _ _ _
    · exact (h6 j hj).1
  · obtain ⟨h1, h2, h3, h4, h5, h6⟩ := hI
    refine ⟨h1, h2, h3, h4, fun p hp => ?_, h6⟩
    obtain ⟨g1, g2, g3, g4, g5, g6⟩ := h5 p hp
    by_cases e : p = u
    · subst e
      have e1 : ∀ f, (setXp S p 3 (xpf S p 3 ||| (1 : Int32) <<< (l &&& 31))).2.2.2.2.2.2 p f = if f = 3 then (xpf S p 3 ||| (1 : Int32) <<< (l &&& 31)) else xpf S p f := by
        intro f
        simp [setXp, va_up]
      refine ⟨g1, ?_, ?_, ?_, ?_, ?_⟩
      · show (setXp S p 3 _).2.2.2.2.2.2 p 0 = _
        rw [e1]; exact g2
      · show Rg ((setXp S p 3 _).2.2.2.2.2.2 p 1) 9
        rw [e1]; exact g3
      · show Rg ((setXp S p 3 _).2.2.2.2.2.2 p 2) 2
        rw [e1]; exact g4
      · show Rg ((setXp S p 3 _).2.2.2.2.2.2 p 3) 31
        rw [e1]; exact learn_rg g5 hl
      · show Rg ((setXp S p 3 _).2.2.2.2.2.2 p 4) 2 ∧ Rg ((setXp S p 3 _).2.2.2.2.2.2 p 5) 31
        rw [e1, e1]; exact g6
    · have e1 : (setXp S u 3 (xpf S u 3 ||| (1 : Int32) <<< (l &&& 31))).2.2.2.2.2.2 p = xpf S p := by
        simp [setXp, va_up, e]
      refine ⟨g1, ?_⟩
      show (setXp S u 3 _).2.2.2.2.2.2 p 0 = _ ∧ Rg ((setXp S u 3 _).2.2.2.2.2.2 p 1) 9 ∧ Rg ((setXp S u 3 _).2.2.2.2.2.2 p 2) 2 ∧ Rg ((setXp S u 3 _).2.2.2.2.2.2 p 3) 31 ∧ Rg ((setXp S u 3 _).2.2.2.2.2.2 p 4) 2 ∧ Rg ((setXp S u 3 _).2.2.2.2.2.2 p 5) 31
      rw [e1]
      exact ⟨g2, g3, g4, g5, g6⟩
/-- what a school leaves as it was -/
def SoI (S Z : StX) : Prop := IX Z ∧ Z.2.2.2.1 = S.2.2.2.1 ∧ Z.2.2.2.2.1 = S.2.2.2.2.1 ∧ Z.2.2.2.2.2.1 = S.2.2.2.2.2.1 ∧ (∀ f, ¬ f = 22 → Z.1 f = S.1 f)
theorem x_taught_i (S : StX) (u : Nat) (l b : Int32) : (x_taught S u l b).1 = S.1 := by unfold x_taught; split <;> rfl
theorem SoI.so {S Z : StX} (h : SoI S Z) {u i : Nat} (hu : u < xnp S) (hi : i < 5) : SoI S (x_so u i Z) := by
  unfold x_so
  split
  · obtain ⟨h1, h2, h3, h4, h5⟩ := h
    refine ⟨IX_taught (S := x_drawS Z) h1 (by show u < Z.2.2.2.1; rw [h2]; exact hu) (vp_in_nI hi (by decide)), ?_, ?_, ?_, ?_⟩
    · rw [x_taught_np]; exact h2
    · rw [show (x_taught (x_drawS Z) u (nI i) _).2.2.2.2.1 = (x_drawS Z).2.2.2.2.1 from funext fun q => x_taught_pa _ _ _ _ q]; exact h3
    · rw [show (x_taught (x_drawS Z) u (nI i) _).2.2.2.2.2.1 = (x_drawS Z).2.2.2.2.2.1 from funext fun q => x_taught_pk _ _ _ _ q]; exact h4
    · intro f hf
      rw [x_taught_i]
      show va_up Z.1 22 _ f = _
      unfold va_up
      rw [if_neg hf]
      exact h5 f hf
  · exact h
theorem SoI.nf {S Z : StX} (h : SoI S Z) {u : Nat} (hu : u < xnp S) : ∀ i, i ≤ 5 → SoI S (nf (x_so u) i Z) := by
  intro i
  induction i with
  | zero => intro _; exact h
  | succ i ih => intro hi; exact (ih (by omega)).so hu (by omega)
theorem SoI.rf {S : StX} (h : IX S) : SoI S S := ⟨h, rfl, rfl, rfl, fun _ _ => rfl⟩

set_option maxHeartbeats 4000000 in
theorem cJ_bitCount {G : Gx} (B : Base G) (x : Int32) : Ci G yJ6_bitCount cJ6_bitCount 1 .int (rmD 0) (fun _ : Unit => []) () [.int x] (fun r _ => r = jbc x) := by
  refine Ci.of B [some (.int x)] (by decide) rfl (Nat.le_of_ble_eq_true rfl) (fun E C hR => ?_)
  have C : CxOk E RJ6 cJ6_bitCount 1 G (rmD 0) := C
  refine r_iload_n (pc := 0) C dJ6_bitCount_0 rfl ?_
  refine r_iload_n (pc := 1) C dJ6_bitCount_1 rfl ?_
  refine r_iconst (pc := 2) (1) C dJ6_bitCount_2 (by decide) ?_
  refine r_iushr (pc := 3) C dJ6_bitCount_3 ?_
  refine r_ldc_w (pc := 4) C dJ6_bitCount_4 q568 ?_
  refine r_iand (pc := 7) C dJ6_bitCount_7 ?_
  refine r_isub (pc := 8) C dJ6_bitCount_8 ?_
  refine r_istore_n (pc := 9) C dJ6_bitCount_9 (by decide) ?_
  refine r_iload_n (pc := 10) C dJ6_bitCount_10 rfl ?_
  refine r_ldc_w (pc := 11) C dJ6_bitCount_11 q569 ?_
  refine r_iand (pc := 14) C dJ6_bitCount_14 ?_
  refine r_iload_n (pc := 15) C dJ6_bitCount_15 rfl ?_
  refine r_iconst (pc := 16) (2) C dJ6_bitCount_16 (by decide) ?_
  refine r_iushr (pc := 17) C dJ6_bitCount_17 ?_
  refine r_ldc_w (pc := 18) C dJ6_bitCount_18 q569 ?_
  refine r_iand (pc := 21) C dJ6_bitCount_21 ?_
  refine r_iadd (pc := 22) C dJ6_bitCount_22 ?_
  refine r_istore_n (pc := 23) C dJ6_bitCount_23 (by decide) ?_
  refine r_iload_n (pc := 24) C dJ6_bitCount_24 rfl ?_
  refine r_iload_n (pc := 25) C dJ6_bitCount_25 rfl ?_
  refine r_iconst (pc := 26) (4) C dJ6_bitCount_26 (by decide) ?_
  refine r_iushr (pc := 27) C dJ6_bitCount_27 ?_
  refine r_iadd (pc := 28) C dJ6_bitCount_28 ?_
  refine r_ldc_w (pc := 29) C dJ6_bitCount_29 q570 ?_
  refine r_iand (pc := 32) C dJ6_bitCount_32 ?_
  refine r_istore_n (pc := 33) C dJ6_bitCount_33 (by decide) ?_
  refine r_iload_n (pc := 34) C dJ6_bitCount_34 rfl ?_
  refine r_iload_n (pc := 35) C dJ6_bitCount_35 rfl ?_
  refine r_bipush (pc := 36) (8) C dJ6_bitCount_36 (by decide) ?_
  refine r_iushr (pc := 38) C dJ6_bitCount_38 ?_
  refine r_iadd (pc := 39) C dJ6_bitCount_39 ?_
  refine r_istore_n (pc := 40) C dJ6_bitCount_40 (by decide) ?_
  refine r_iload_n (pc := 41) C dJ6_bitCount_41 rfl ?_
  refine r_iload_n (pc := 42) C dJ6_bitCount_42 rfl ?_
  refine r_bipush (pc := 43) (16) C dJ6_bitCount_43 (by decide) ?_
  refine r_iushr (pc := 45) C dJ6_bitCount_45 ?_
  refine r_iadd (pc := 46) C dJ6_bitCount_46 ?_
  refine r_istore_n (pc := 47) C dJ6_bitCount_47 (by decide) ?_
  refine r_iload_n (pc := 48) C dJ6_bitCount_48 rfl ?_
  refine r_bipush (pc := 49) (63) C dJ6_bitCount_49 (by decide) ?_
  refine r_iand (pc := 51) C dJ6_bitCount_51 ?_
  exact r_iret (pc := 52) (S := ()) C hR dJ6_bitCount_52 (by decide) (by decide) rfl

set_option maxHeartbeats 4000000 in
theorem cX_hear {G : Gx} (B : Base G) (a : Nat → Nat) (S : StX) (p l b : Int32) (hI : IX S) : Ci G yX0_hear cX0_hear 4 .int (rmD 2) (wX G a) S [.ref (a 0), .int p, .int l, .int b] (fun r S' => r = (x_hear S p l b).1 ∧ S' = (x_hear S p l b).2) := by
  refine Ci.of B [some (.ref (a 0)), some (.int p), some (.int l), some (.int b)] (by decide) rfl (Nat.le_of_ble_eq_true rfl) (fun E C hR => ?_)
  have C : CxOk E RX0 cX0_hear 4 G (rmD 2) := C
  refine r_aload_n (pc := 0) C dX0_hear_0 rfl ?_
  refine r_iload_n (pc := 1) C dX0_hear_1 rfl ?_
  refine X_cQi (pc := 2) C (cX_isPrince B a _ _) q366 mX0_isPrince rfl dX0_hear_2 (by decide) (Nat.le_of_ble_eq_true rfl) ?_
  refine r_if_eq (pc := 5) 16 C dX0_hear_5 (by decide) (fun c5 => ?_) (fun c5 => ?_)
  · refine r_bipush (pc := 16) (-101) C dX0_hear_16 (by decide) ?_
    exact r_iret (pc := 18) C hR dX0_hear_18 (by decide) (by decide) ⟨by (rw [x_hear, if_pos c5] <;> rfl), by (rw [x_hear, if_pos c5] <;> rfl)⟩
  · refine r_aload_n (pc := 8) C dX0_hear_8 rfl ?_
    refine r_iload_n (pc := 9) C dX0_hear_9 rfl ?_
    refine X_cQi (pc := 10) C (cX_isLesson B a _ _) q242 mX0_isLesson rfl dX0_hear_10 (by decide) (Nat.le_of_ble_eq_true rfl) ?_
    refine r_if_ne (pc := 13) 19 C dX0_hear_13 (by decide) (fun c13 => ?_) (fun c13 => ?_)
    · refine r_aload_n (pc := 19) C dX0_hear_19 rfl ?_
      refine X_g21 (pc := 20) C dX0_hear_20 ?_
      refine r_bipush (pc := 23) (6) C dX0_hear_23 (by decide) ?_
      refine r_icmp_ne (pc := 25) 31 C dX0_hear_25 (by decide) (fun c25 => ?_) (fun c25 => ?_)
      · refine r_aload_n (pc := 31) C dX0_hear_31 rfl ?_
        refine X_g18 (pc := 32) C dX0_hear_32 ?_
        refine r_aload_n (pc := 35) C dX0_hear_35 rfl ?_
        refine X_g21 (pc := 36) C dX0_hear_36 ?_
        refine r_iload_n (pc := 39) C dX0_hear_39 rfl ?_
        refine X_s18 (pc := 40) C dX0_hear_40 (hI.heard.in_ne (by decide) c25) ?_
        refine r_aload_n (pc := 41) C dX0_hear_41 rfl ?_
        refine X_g19 (pc := 42) C dX0_hear_42 ?_
        refine r_aload_n (pc := 45) C dX0_hear_45 rfl ?_
        refine X_g21 (pc := 46) C dX0_hear_46 ?_
        refine r_iload_n (pc := 49) C dX0_hear_49 rfl ?_
        refine X_s19 (pc := 50) C dX0_hear_50 (hI.heard.in_ne (by decide) c25) ?_
        refine r_aload_n (pc := 51) C dX0_hear_51 rfl ?_
        refine X_g20 (pc := 52) C dX0_hear_52 ?_
        refine r_aload_n (pc := 55) C dX0_hear_55 rfl ?_
        refine X_g21 (pc := 56) C dX0_hear_56 ?_
        refine r_iload_n (pc := 59) C dX0_hear_59 rfl ?_
        refine X_s20 (pc := 60) C dX0_hear_60 (hI.heard.in_ne (by decide) c25) ?_
        refine r_aload_n (pc := 61) C dX0_hear_61 rfl ?_
        refine r_dup (pc := 62) C dX0_hear_62 rfl ?_
        refine X_g21 (pc := 63) C dX0_hear_63 ?_
        refine r_iconst (pc := 66) (1) C dX0_hear_66 (by decide) ?_
        refine r_iadd (pc := 67) C dX0_hear_67 ?_
        refine X_p21 (pc := 68) C dX0_hear_68 ?_
        refine r_aload_n (pc := 71) C dX0_hear_71 rfl ?_
        refine X_g21 (pc := 72) C dX0_hear_72 ?_
        exact r_iret (pc := 75) C hR dX0_hear_75 (by decide) (by decide) ⟨by (rw [x_hear, if_neg c5, if_neg c13, if_neg c25] <;> rfl), by (rw [x_hear, if_neg c5, if_neg c13, if_neg c25] <;> rfl)⟩
      · refine r_bipush (pc := 28) (-104) C dX0_hear_28 (by decide) ?_
        exact r_iret (pc := 30) C hR dX0_hear_30 (by decide) (by decide) ⟨by (rw [x_hear, if_neg c5, if_neg c13, if_pos c25] <;> rfl), by (rw [x_hear, if_neg c5, if_neg c13, if_pos c25] <;> rfl)⟩
    · refine r_bipush (pc := 16) (-101) C dX0_hear_16 (by decide) ?_
      exact r_iret (pc := 18) C hR dX0_hear_18 (by decide) (by decide) ⟨by (rw [x_hear, if_neg c5, if_pos c13] <;> rfl), by (rw [x_hear, if_neg c5, if_pos c13] <;> rfl)⟩

set_option maxHeartbeats 4000000 in
theorem cX_forget {G : Gx} (B : Base G) (a : Nat → Nat) (S : StX)  : Ci G yX0_forget cX0_forget 2 .int (rmD 0) (wX G a) S [.ref (a 0)] (fun r S' => r = S.1 21 ∧ S' = setXi S 21 0) := by
  refine Ci.of B [some (.ref (a 0)), none] (by decide) rfl (Nat.le_of_ble_eq_true rfl) (fun E C hR => ?_)
  have C : CxOk E RX0 cX0_forget 2 G (rmD 0) := C
  refine r_aload_n (pc := 0) C dX0_forget_0 rfl ?_
  refine X_g21 (pc := 1) C dX0_forget_1 ?_
  refine r_istore_n (pc := 4) C dX0_forget_4 (by decide) ?_
  refine r_aload_n (pc := 5) C dX0_forget_5 rfl ?_
  refine r_iconst (pc := 6) (0) C dX0_forget_6 (by decide) ?_
  refine X_p21 (pc := 7) C dX0_forget_7 ?_
  refine r_iload_n (pc := 10) C dX0_forget_10 rfl ?_
  exact r_iret (pc := 11) C hR dX0_forget_11 (by decide) (by decide) ⟨rfl, rfl⟩

set_option maxHeartbeats 4000000 in
theorem cX_canBe {G : Gx} (B : Base G) (a : Nat → Nat) (S : StX) (u : Nat) (f : Int32) (hI : IX S) (hu : u < xnp S) : Ci G yX0_canBe cX0_canBe 5 .boolean (rmD 4) (wX G a) S [.ref (a 0), .ref (xpa S u), .int f] (fun r S' => r = x_canBe S u f ∧ S' = S) := by
  refine Ci.of B [some (.ref (a 0)), some (.ref (xpa S u)), some (.int f), none, none] (by decide) rfl (Nat.le_of_ble_eq_true rfl) (fun E C hR => ?_)
  have C : CxOk E RX0 cX0_canBe 5 G (rmD 4) := C
  have hu3 : u < 3 := Nat.lt_of_lt_of_le hu hI.np
  have hk5 := hI.k5 hu
  have e0 := hI.num hu
  have hb := hI.boy hu
  refine r_iconst (pc := 0) (1) C dX0_canBe_0 (by decide) ?_
  refine r_istore_n (pc := 1) C dX0_canBe_1 (by decide) ?_
  refine r_iconst (pc := 2) (0) C dX0_canBe_2 (by decide) ?_
  refine r_istore (pc := 3) C dX0_canBe_3 (by decide) ?_
  refine V_for (P := fun i z => V E 5 0 0 (wX G a S) 5 [some (.ref (a 0)), some (.ref (xpa S u)), some (.int f), some (.int z), some (.int (nI i))] []) (x_cb S u f) 1 (S.1 21).toNatClampNeg (fun i hi K5 => ?_) ?_
  · have hi6 : i < 6 := Nat.lt_of_lt_of_le hi hI.heard.2
    have hv6 : vp_in (nI i) 6 := vp_in_nI hi6 (by decide)
    have hl5 : vp_in (xar S 19 i) 5 := (hI.heL hi6).in (by decide) (by decide)
    refine r_iload (pc := 5) C dX0_canBe_5 rfl ?_
    refine r_aload_n (pc := 7) C dX0_canBe_7 rfl ?_
    refine X_g21 (pc := 8) C dX0_canBe_8 ?_
    refine r_icmp_ge (pc := 11) 74 C dX0_canBe_11 (by decide) (fun c11 => ?_) (fun c11 => ?_)
    · exact absurd c11 (lp_in hI.heard (by decide) hi)
    · refine r_iload_n (pc := 14) C dX0_canBe_14 rfl ?_
      refine r_aload_n (pc := 15) C dX0_canBe_15 rfl ?_
      refine X_g18 (pc := 16) C dX0_canBe_16 ?_
      refine r_iload (pc := 19) C dX0_canBe_19 rfl ?_
      refine X_l18 (pc := 21) C dX0_canBe_21 (by assumption) ?_
      rw [nI_clamp (Nat.lt_trans hi6 (by decide))]
      refine r_aload_n (pc := 22) C dX0_canBe_22 rfl ?_
      refine P_g0n (pc := 23) C dX0_canBe_23 (by assumption) (by assumption) (by assumption) ?_
      refine r_icmp_ne (pc := 26) 61 C dX0_canBe_26 (by decide) (fun c26 => ?_) (fun c26 => ?_)
      · refine r_iconst (pc := 61) (1) C dX0_canBe_61 (by decide) ?_
        refine r_goto (pc := 62) 66 C dX0_canBe_62 (by decide) ?_
        refine r_iand (pc := 66) C dX0_canBe_66 ?_
        refine r_istore_n (pc := 67) C dX0_canBe_67 (by decide) ?_
        refine r_iinc (pc := 68) _ C dX0_canBe_68 rfl (nI_1 i) (by decide) ?_
        refine r_goto (pc := 71) 5 C dX0_canBe_71 (by decide) ?_
        rw [show nf (x_cb S u f) (i + 1) 1 = x_cb S u f i (nf (x_cb S u f) i 1) from rfl, x_cb, if_neg c26] at K5
        exact K5
      · refine r_aload_n (pc := 29) C dX0_canBe_29 rfl ?_
        refine r_aload_n (pc := 30) C dX0_canBe_30 rfl ?_
        refine r_aload_n (pc := 31) C dX0_canBe_31 rfl ?_
        refine X_g19 (pc := 32) C dX0_canBe_32 ?_
        refine r_iload (pc := 35) C dX0_canBe_35 rfl ?_
        refine X_l19 (pc := 37) C dX0_canBe_37 (by assumption) ?_
        rw [nI_clamp (Nat.lt_trans hi6 (by decide))]
        refine r_iload_n (pc := 38) C dX0_canBe_38 rfl ?_
        refine X_cQi (pc := 39) C (cX_tenthsBy B a _ _ _ _ (by assumption) (by assumption) (by assumption)) q527 mX0_tenthsBy rfl dX0_canBe_39 (by decide) (Nat.le_of_ble_eq_true rfl) ?_
        refine r_aload_n (pc := 42) C dX0_canBe_42 rfl ?_
        refine X_g20 (pc := 43) C dX0_canBe_43 ?_
        refine r_iload (pc := 46) C dX0_canBe_46 rfl ?_
        refine X_l20 (pc := 48) C dX0_canBe_48 (by assumption) ?_
        rw [nI_clamp (Nat.lt_trans hi6 (by decide))]
        refine r_if_eq (pc := 49) 56 C dX0_canBe_49 (by decide) (fun c49 => ?_) (fun c49 => ?_)
        · refine r_bipush (pc := 56) (10) C dX0_canBe_56 (by decide) ?_
          refine r_icmp_eq (pc := 58) 65 C dX0_canBe_58 (by decide) (fun c58 => ?_) (fun c58 => ?_)
          · refine r_iconst (pc := 65) (0) C dX0_canBe_65 (by decide) ?_
            refine r_iand (pc := 66) C dX0_canBe_66 ?_
            refine r_istore_n (pc := 67) C dX0_canBe_67 (by decide) ?_
            refine r_iinc (pc := 68) _ C dX0_canBe_68 rfl (nI_1 i) (by decide) ?_
            refine r_goto (pc := 71) 5 C dX0_canBe_71 (by decide) ?_
            rw [show nf (x_cb S u f) (i + 1) 1 = x_cb S u f i (nf (x_cb S u f) i 1) from rfl, x_cb, if_pos c26, if_pos c49, if_pos c58] at K5
            exact K5
          · refine r_iconst (pc := 61) (1) C dX0_canBe_61 (by decide) ?_
            refine r_goto (pc := 62) 66 C dX0_canBe_62 (by decide) ?_
            refine r_iand (pc := 66) C dX0_canBe_66 ?_
            refine r_istore_n (pc := 67) C dX0_canBe_67 (by decide) ?_
            refine r_iinc (pc := 68) _ C dX0_canBe_68 rfl (nI_1 i) (by decide) ?_
            refine r_goto (pc := 71) 5 C dX0_canBe_71 (by decide) ?_
            rw [show nf (x_cb S u f) (i + 1) 1 = x_cb S u f i (nf (x_cb S u f) i 1) from rfl, x_cb, if_pos c26, if_pos c49, if_neg c58] at K5
            exact K5
        · refine r_iconst (pc := 52) (0) C dX0_canBe_52 (by decide) ?_
          refine r_goto (pc := 53) 58 C dX0_canBe_53 (by decide) ?_
          refine r_icmp_eq (pc := 58) 65 C dX0_canBe_58 (by decide) (fun c58 => ?_) (fun c58 => ?_)
          · refine r_iconst (pc := 65) (0) C dX0_canBe_65 (by decide) ?_
            refine r_iand (pc := 66) C dX0_canBe_66 ?_
            refine r_istore_n (pc := 67) C dX0_canBe_67 (by decide) ?_
            refine r_iinc (pc := 68) _ C dX0_canBe_68 rfl (nI_1 i) (by decide) ?_
            refine r_goto (pc := 71) 5 C dX0_canBe_71 (by decide) ?_
            rw [show nf (x_cb S u f) (i + 1) 1 = x_cb S u f i (nf (x_cb S u f) i 1) from rfl, x_cb, if_pos c26, if_neg c49, if_pos c58] at K5
            exact K5
          · refine r_iconst (pc := 61) (1) C dX0_canBe_61 (by decide) ?_
            refine r_goto (pc := 62) 66 C dX0_canBe_62 (by decide) ?_
            refine r_iand (pc := 66) C dX0_canBe_66 ?_
            refine r_istore_n (pc := 67) C dX0_canBe_67 (by decide) ?_
            refine r_iinc (pc := 68) _ C dX0_canBe_68 rfl (nI_1 i) (by decide) ?_
            refine r_goto (pc := 71) 5 C dX0_canBe_71 (by decide) ?_
            rw [show nf (x_cb S u f) (i + 1) 1 = x_cb S u f i (nf (x_cb S u f) i 1) from rfl, x_cb, if_pos c26, if_neg c49, if_neg c58] at K5
            exact K5
  · refine r_iload (pc := 5) C dX0_canBe_5 rfl ?_
    refine r_aload_n (pc := 7) C dX0_canBe_7 rfl ?_
    refine X_g21 (pc := 8) C dX0_canBe_8 ?_
    refine r_icmp_ge (pc := 11) 74 C dX0_canBe_11 (by decide) (fun c11 => ?_) (fun c11 => ?_)
    · refine r_iload_n (pc := 74) C dX0_canBe_74 rfl ?_
      exact r_zret (pc := 75) C hR dX0_canBe_75 (z_of (x_cb_01 S u f _)) (by decide) (by decide) ⟨rfl, rfl⟩
    · exact absurd (lp_out hI.heard (by decide)) c11

set_option maxHeartbeats 4000000 in
theorem cX_fondnessOf {G : Gx} (B : Base G) (a : Nat → Nat) (S : StX) (u : Nat)  (hI : IX S) (hu : u < xnp S) : Ci G yX0_fondnessOf cX0_fondnessOf 4 .int (rmD 5) (wX G a) S [.ref (a 0), .ref (xpa S u)] (fun r S' => r = x_fondnessOf S u ∧ S' = S) := by
  refine Ci.of B [some (.ref (a 0)), some (.ref (xpa S u)), none, none] (by decide) rfl (Nat.le_of_ble_eq_true rfl) (fun E C hR => ?_)
  have C : CxOk E RX0 cX0_fondnessOf 4 G (rmD 5) := C
  have hu3 : u < 3 := Nat.lt_of_lt_of_le hu hI.np
  have hk5 := hI.k5 hu
  have e0 := hI.num hu
  have hb := hI.boy hu
  refine r_iconst (pc := 0) (0) C dX0_fondnessOf_0 (by decide) ?_
  refine r_istore_n (pc := 1) C dX0_fondnessOf_1 (by decide) ?_
  refine r_iconst (pc := 2) (0) C dX0_fondnessOf_2 (by decide) ?_
  refine r_istore_n (pc := 3) C dX0_fondnessOf_3 (by decide) ?_
  refine V_for (P := fun i z => V E 4 0 0 (wX G a S) 4 [some (.ref (a 0)), some (.ref (xpa S u)), some (.int z), some (.int (nI i))] []) (x_fb S u) 0 10 (fun i hi K4 => ?_) ?_
  · refine r_iload_n (pc := 4) C dX0_fondnessOf_4 rfl ?_
    refine r_bipush (pc := 5) (9) C dX0_fondnessOf_5 (by decide) ?_
    refine r_icmp_gt (pc := 7) 35 C dX0_fondnessOf_7 (by decide) (fun c7 => ?_) (fun c7 => ?_)
    · exact absurd c7 (nI_nlt (a := 9) (Nat.le_of_lt_succ hi) (by decide))
    · refine r_iload_n (pc := 10) C dX0_fondnessOf_10 rfl ?_
      refine r_aload_n (pc := 11) C dX0_fondnessOf_11 rfl ?_
      refine r_aload_n (pc := 12) C dX0_fondnessOf_12 rfl ?_
      refine r_iload_n (pc := 13) C dX0_fondnessOf_13 rfl ?_
      refine X_cQi (pc := 14) C (cX_canBe B a _ _ _ (by assumption) (by assumption)) q631 mX0_canBe rfl dX0_fondnessOf_14 (by decide) (Nat.le_of_ble_eq_true rfl) ?_
      refine r_if_eq (pc := 17) 26 C dX0_fondnessOf_17 (by decide) (fun c17 => ?_) (fun c17 => ?_)
      · refine r_iconst (pc := 26) (0) C dX0_fondnessOf_26 (by decide) ?_
        refine r_ior (pc := 27) C dX0_fondnessOf_27 ?_
        refine r_istore_n (pc := 28) C dX0_fondnessOf_28 (by decide) ?_
        refine r_iinc (pc := 29) _ C dX0_fondnessOf_29 rfl (nI_1 i) (by decide) ?_
        refine r_goto (pc := 32) 4 C dX0_fondnessOf_32 (by decide) ?_
        rw [show nf (x_fb S u) (i + 1) 0 = x_fb S u i (nf (x_fb S u) i 0) from rfl, x_fb, if_pos c17] at K4
        exact K4
      · refine r_iconst (pc := 20) (1) C dX0_fondnessOf_20 (by decide) ?_
        refine r_iload_n (pc := 21) C dX0_fondnessOf_21 rfl ?_
        refine r_ishl (pc := 22) C dX0_fondnessOf_22 ?_
        refine r_goto (pc := 23) 27 C dX0_fondnessOf_23 (by decide) ?_
        refine r_ior (pc := 27) C dX0_fondnessOf_27 ?_
        refine r_istore_n (pc := 28) C dX0_fondnessOf_28 (by decide) ?_
        refine r_iinc (pc := 29) _ C dX0_fondnessOf_29 rfl (nI_1 i) (by decide) ?_
        refine r_goto (pc := 32) 4 C dX0_fondnessOf_32 (by decide) ?_
        rw [show nf (x_fb S u) (i + 1) 0 = x_fb S u i (nf (x_fb S u) i 0) from rfl, x_fb, if_neg c17] at K4
        exact K4
  · refine r_iload_n (pc := 4) C dX0_fondnessOf_4 rfl ?_
    refine r_bipush (pc := 5) (9) C dX0_fondnessOf_5 (by decide) ?_
    refine r_icmp_gt (pc := 7) 35 C dX0_fondnessOf_7 (by decide) (fun c7 => ?_) (fun c7 => ?_)
    · refine r_iload_n (pc := 35) C dX0_fondnessOf_35 rfl ?_
      exact r_iret (pc := 36) C hR dX0_fondnessOf_36 (by decide) (by decide) ⟨rfl, rfl⟩
    · exact absurd (nI_lt (a := 9) (b := 10) (by decide) (by decide)) c7

set_option maxHeartbeats 4000000 in
theorem cX_fondness {G : Gx} (B : Base G) (a : Nat → Nat) (S : StX) (p : Int32) (hI : IX S) : Ci G yX0_fondness cX0_fondness 2 .int (rmD 6) (wX G a) S [.ref (a 0), .int p] (fun r S' => r = x_fondness S p ∧ S' = S) := by
  refine Ci.of B [some (.ref (a 0)), some (.int p)] (by decide) rfl (Nat.le_of_ble_eq_true rfl) (fun E C hR => ?_)
  have C : CxOk E RX0 cX0_fondness 2 G (rmD 6) := C
  refine r_aload_n (pc := 0) C dX0_fondness_0 rfl ?_
  refine r_iload_n (pc := 1) C dX0_fondness_1 rfl ?_
  refine X_cQi (pc := 2) C (cX_isPrince B a _ _) q366 mX0_isPrince rfl dX0_fondness_2 (by decide) (Nat.le_of_ble_eq_true rfl) ?_
  refine r_if_eq (pc := 5) 21 C dX0_fondness_5 (by decide) (fun c5 => ?_) (fun c5 => ?_)
  · refine r_bipush (pc := 21) (-101) C dX0_fondness_21 (by decide) ?_
    exact r_iret (pc := 23) C hR dX0_fondness_23 (by decide) (by decide) (by refine ⟨?_, ?_⟩ <;> (try simp only [x_fondness, c5, ↓reduceIte]) <;> (try rfl))
  · obtain ⟨ep, hu, hu3⟩ := hI.pr c5
    have hk5 := hI.k5 hu
    refine r_aload_n (pc := 8) C dX0_fondness_8 rfl ?_
    refine r_aload_n (pc := 9) C dX0_fondness_9 rfl ?_
    refine X_g6 (pc := 10) C dX0_fondness_10 ?_
    refine r_iload_n (pc := 13) C dX0_fondness_13 rfl ?_
    refine X_l6 (pc := 14) C dX0_fondness_14 ep hu hu3 ?_
    refine X_cQi (pc := 15) C (cX_fondnessOf B a _ _ (by assumption) (by assumption)) q627 mX0_fondnessOf rfl dX0_fondness_15 (by decide) (Nat.le_of_ble_eq_true rfl) ?_
    refine r_goto (pc := 18) 23 C dX0_fondness_18 (by decide) ?_
    exact r_iret (pc := 23) C hR dX0_fondness_23 (by decide) (by decide) (by refine ⟨?_, ?_⟩ <;> (try simp only [x_fondness, c5, ↓reduceIte]) <;> (try rfl))

set_option maxHeartbeats 4000000 in
theorem cX_draw {G : Gx} (B : Base G) (a : Nat → Nat) (S : StX) (m : Int32) (hm : ¬ m = 0) : Ci G yX0_draw cX0_draw 2 .int (rmD 0) (wX G a) S [.ref (a 0), .int m] (fun r S' => r = x_drawR S m ∧ S' = x_drawS S) := by
  refine Ci.of B [some (.ref (a 0)), some (.int m)] (by decide) rfl (Nat.le_of_ble_eq_true rfl) (fun E C hR => ?_)
  have C : CxOk E RX0 cX0_draw 2 G (rmD 0) := C
  refine r_aload_n (pc := 0) C dX0_draw_0 rfl ?_
  refine r_ldc2 (pc := 1) C dX0_draw_1 q656 ?_
  refine r_aload_n (pc := 4) C dX0_draw_4 rfl ?_
  refine X_g22 (pc := 5) C dX0_draw_5 ?_
  refine r_i2l (pc := 8) C dX0_draw_8 ?_
  refine r_lmul (pc := 9) C dX0_draw_9 ?_
  refine r_ldc2 (pc := 10) C dX0_draw_10 q657 ?_
  refine r_ladd (pc := 13) C dX0_draw_13 ?_
  refine r_ldc2 (pc := 14) C dX0_draw_14 q658 ?_
  refine r_land (pc := 17) C dX0_draw_17 ?_
  refine r_l2i (pc := 18) C dX0_draw_18 ?_
  refine X_p22 (pc := 19) C dX0_draw_19 ?_
  refine r_aload_n (pc := 22) C dX0_draw_22 rfl ?_
  refine X_g22 (pc := 23) C dX0_draw_23 ?_
  refine r_ldc_w (pc := 26) C dX0_draw_26 q659 ?_
  refine r_idiv (pc := 29) C dX0_draw_29 (by decide) ?_
  refine r_iload_n (pc := 30) C dX0_draw_30 rfl ?_
  refine r_irem (pc := 31) C dX0_draw_31 hm ?_
  exact r_iret (pc := 32) C hR dX0_draw_32 (by decide) (by decide) ⟨rfl, rfl⟩

set_option maxHeartbeats 4000000 in
theorem cX_learntAll {G : Gx} (B : Base G) (a : Nat → Nat) (S : StX) (hI : IX S) : Ci G yX0_learntAll cX0_learntAll 3 .int (rmD 1) (wX G a) S [.ref (a 0)] (fun r S' => r = x_learntAll S ∧ S' = S) := by
  refine Ci.of B [some (.ref (a 0)), none, none] (by decide) rfl (Nat.le_of_ble_eq_true rfl) (fun E C hR => ?_)
  have C : CxOk E RX0 cX0_learntAll 3 G (rmD 1) := C
  refine r_iconst (pc := 0) (0) C dX0_learntAll_0 (by decide) ?_
  refine r_istore_n (pc := 1) C dX0_learntAll_1 (by decide) ?_
  refine r_iconst (pc := 2) (0) C dX0_learntAll_2 (by decide) ?_
  refine r_istore_n (pc := 3) C dX0_learntAll_3 (by decide) ?_
  refine V_for (P := fun i z => V E 3 0 0 (wX G a S) 4 [some (.ref (a 0)), some (.int z), some (.int (nI i))] []) (x_la S) 0 (S.1 7).toNatClampNeg (fun i hi K4 => ?_) ?_
  · have hu : i < S.2.2.2.1 := Nat.lt_of_lt_of_le hi hI.mnp
    have hu3 : i < 3 := Nat.lt_of_lt_of_le hu hI.np
    have hk5 := hI.k5 hu
    refine r_iload_n (pc := 4) C dX0_learntAll_4 rfl ?_
    refine r_aload_n (pc := 5) C dX0_learntAll_5 rfl ?_
    refine X_g7 (pc := 6) C dX0_learntAll_6 ?_
    refine r_icmp_ge (pc := 9) 33 C dX0_learntAll_9 (by decide) (fun c9 => ?_) (fun c9 => ?_)
    · exact absurd c9 (lp_in hI.many (by decide) hi)
    · refine r_iload_n (pc := 12) C dX0_learntAll_12 rfl ?_
      refine r_aload_n (pc := 13) C dX0_learntAll_13 rfl ?_
      refine X_g6 (pc := 14) C dX0_learntAll_14 ?_
      refine r_iload_n (pc := 17) C dX0_learntAll_17 rfl ?_
      refine X_l6 (pc := 18) C dX0_learntAll_18 rfl hu hu3 ?_
      refine P_g3 (pc := 19) C dX0_learntAll_19 (by assumption) (by assumption) ?_
      refine S_cQi (pc := 22) C (cJ_bitCount B _) q565 mJ6_bitCount rfl dX0_learntAll_22 (by decide) (Nat.le_of_ble_eq_true rfl) ?_
      refine r_iadd (pc := 25) C dX0_learntAll_25 ?_
      refine r_istore_n (pc := 26) C dX0_learntAll_26 (by decide) ?_
      refine r_iinc (pc := 27) _ C dX0_learntAll_27 rfl (nI_1 i) (by decide) ?_
      refine r_goto (pc := 30) 4 C dX0_learntAll_30 (by decide) ?_
      exact K4
  · refine r_iload_n (pc := 4) C dX0_learntAll_4 rfl ?_
    refine r_aload_n (pc := 5) C dX0_learntAll_5 rfl ?_
    refine X_g7 (pc := 6) C dX0_learntAll_6 ?_
    refine r_icmp_ge (pc := 9) 33 C dX0_learntAll_9 (by decide) (fun c9 => ?_) (fun c9 => ?_)
    · refine r_iload_n (pc := 33) C dX0_learntAll_33 rfl ?_
      exact r_iret (pc := 34) C hR dX0_learntAll_34 (by decide) (by decide) ⟨rfl, rfl⟩
    · exact absurd (lp_out hI.many (by decide)) c9

set_option maxHeartbeats 4000000 in
theorem cX_stripesAll {G : Gx} (B : Base G) (a : Nat → Nat) (S : StX)  : Ci G yX0_stripesAll cX0_stripesAll 3 .int (rmD 0) (wX G a) S [.ref (a 0)] (fun r S' => r = x_stripesAll S ∧ S' = S) := by
  refine Ci.of B [some (.ref (a 0)), none, none] (by decide) rfl (Nat.le_of_ble_eq_true rfl) (fun E C hR => ?_)
  have C : CxOk E RX0 cX0_stripesAll 3 G (rmD 0) := C
  refine r_iconst (pc := 0) (0) C dX0_stripesAll_0 (by decide) ?_
  refine r_istore_n (pc := 1) C dX0_stripesAll_1 (by decide) ?_
  refine r_iconst (pc := 2) (0) C dX0_stripesAll_2 (by decide) ?_
  refine r_istore_n (pc := 3) C dX0_stripesAll_3 (by decide) ?_
  refine V_for (P := fun i z => V E 3 0 0 (wX G a S) 4 [some (.ref (a 0)), some (.int z), some (.int (nI i))] []) (x_sa S) 0 3 (fun i hi K4 => ?_) ?_
  · refine r_iload_n (pc := 4) C dX0_stripesAll_4 rfl ?_
    refine r_iconst (pc := 5) (3) C dX0_stripesAll_5 (by decide) ?_
    refine r_icmp_ge (pc := 6) 24 C dX0_stripesAll_6 (by decide) (fun c6 => ?_) (fun c6 => ?_)
    · exact absurd c6 (lp_in R33 (by decide) hi)
    · refine r_iload_n (pc := 9) C dX0_stripesAll_9 rfl ?_
      refine r_aload_n (pc := 10) C dX0_stripesAll_10 rfl ?_
      refine X_g5 (pc := 11) C dX0_stripesAll_11 ?_
      refine r_iload_n (pc := 14) C dX0_stripesAll_14 rfl ?_
      refine X_l5 (pc := 15) C dX0_stripesAll_15 (vp_in_nI hi (by decide)) ?_
      rw [nI_clamp (Nat.lt_trans hi (by decide))]
      refine r_iadd (pc := 16) C dX0_stripesAll_16 ?_
      refine r_istore_n (pc := 17) C dX0_stripesAll_17 (by decide) ?_
      refine r_iinc (pc := 18) _ C dX0_stripesAll_18 rfl (nI_1 i) (by decide) ?_
      refine r_goto (pc := 21) 4 C dX0_stripesAll_21 (by decide) ?_
      exact K4
  · refine r_iload_n (pc := 4) C dX0_stripesAll_4 rfl ?_
    refine r_iconst (pc := 5) (3) C dX0_stripesAll_5 (by decide) ?_
    refine r_icmp_ge (pc := 6) 24 C dX0_stripesAll_6 (by decide) (fun c6 => ?_) (fun c6 => ?_)
    · refine r_iload_n (pc := 24) C dX0_stripesAll_24 rfl ?_
      exact r_iret (pc := 25) C hR dX0_stripesAll_25 (by decide) (by decide) ⟨rfl, rfl⟩
    · exact absurd (lp_out R33 (by decide)) c6

set_option maxHeartbeats 4000000 in
theorem cX_schoolOf {G : Gx} (B : Base G) (a : Nat → Nat) (S : StX) (u : Nat)  (hI : IX S) (hu : u < xnp S) : Cv G yX0_schoolOf cX0_schoolOf 3 (rmD 5) (wX G a) S [.ref (a 0), .ref (xpa S u)] (fun S' => S' = x_schoolOf S u) := by
  refine Cv.of B [some (.ref (a 0)), some (.ref (xpa S u)), none] (by decide) rfl (Nat.le_of_ble_eq_true rfl) (fun E C hR => ?_)
  have C : CxOk E RX0 cX0_schoolOf 3 G (rmD 5) := C
  refine r_iconst (pc := 0) (0) C dX0_schoolOf_0 (by decide) ?_
  refine r_istore_n (pc := 1) C dX0_schoolOf_1 (by decide) ?_
  refine V_for (P := fun i Z => V E 3 0 0 (wX G a Z) 2 [some (.ref (a 0)), some (.ref (S.2.2.2.2.1 u)), some (.int (nI i))] []) (x_so u) S (S.1 0).toNatClampNeg (fun i hi K2 => ?_) ?_
  · have hi5 : i < 5 := Nat.lt_of_lt_of_le hi hI.les.2
    obtain ⟨hZ, e1, e2, e3, e4⟩ := (SoI.rf hI).nf hu i (Nat.le_of_lt hi5)
    have e0 := e4 0 (by decide)
    simp only [nf] at K2
    rw [← e2] at K2 ⊢
    generalize nf (x_so u) i S = Z at K2 hZ e1 e2 e3 e4 e0 ⊢
    have huZ : u < Z.2.2.2.1 := by rw [e1]; exact hu
    have hkZ := hZ.k5 huZ
    have hl5 : vp_in (nI i) 5 := vp_in_nI hi5 (by decide)
    refine r_iload_n (pc := 2) C dX0_schoolOf_2 rfl ?_
    refine r_aload_n (pc := 3) C dX0_schoolOf_3 rfl ?_
    refine X_g0 (pc := 4) C dX0_schoolOf_4 ?_
    refine r_icmp_ge (pc := 7) 53 C dX0_schoolOf_7 (by decide) (fun c7 => ?_) (fun c7 => ?_)
    · rw [e0] at c7
      exact absurd c7 (lp_in hI.les (by decide) hi)
    · refine r_aload_n (pc := 10) C dX0_schoolOf_10 rfl ?_
      refine P_g3 (pc := 11) C dX0_schoolOf_11 (by assumption) (by assumption) ?_
      refine r_iload_n (pc := 14) C dX0_schoolOf_14 rfl ?_
      refine S_cQi (pc := 15) C (cX_has B _ _) q254 mX0_has rfl dX0_schoolOf_15 (by decide) (Nat.le_of_ble_eq_true rfl) ?_
      refine r_if_ne (pc := 18) 47 C dX0_schoolOf_18 (by decide) (fun c18 => ?_) (fun c18 => ?_)
      · refine r_iinc (pc := 47) _ C dX0_schoolOf_47 rfl (nI_1 i) (by decide) ?_
        refine r_goto (pc := 50) 2 C dX0_schoolOf_50 (by decide) ?_
        rw [x_so, if_neg c18] at K2
        exact K2
      · refine r_aload_n (pc := 21) C dX0_schoolOf_21 rfl ?_
        refine r_aload_n (pc := 22) C dX0_schoolOf_22 rfl ?_
        refine r_iload_n (pc := 23) C dX0_schoolOf_23 rfl ?_
        refine r_aload_n (pc := 24) C dX0_schoolOf_24 rfl ?_
        refine r_bipush (pc := 25) (10) C dX0_schoolOf_25 (by decide) ?_
        refine X_cQi (pc := 27) C (cX_draw B a _ _ (by decide)) q652 mX0_draw rfl dX0_schoolOf_27 (by decide) (Nat.le_of_ble_eq_true rfl) ?_
        refine r_aload_n (pc := 30) C dX0_schoolOf_30 rfl ?_
        refine r_aload_n (pc := 31) C dX0_schoolOf_31 rfl ?_
        refine r_iload_n (pc := 32) C dX0_schoolOf_32 rfl ?_
        refine X_cQi (pc := 33) C (cX_tenthsOf B a (x_drawS Z) u _ hZ huZ hl5) q523 mX0_tenthsOf rfl dX0_schoolOf_33 (by decide) (Nat.le_of_ble_eq_true rfl) ?_
        refine r_icmp_ge (pc := 36) 43 C dX0_schoolOf_36 (by decide) (fun c36 => ?_) (fun c36 => ?_)
        · refine r_iconst (pc := 43) (0) C dX0_schoolOf_43 (by decide) ?_
          refine X_cQv (pc := 44) C (cX_taught B a (x_drawS Z) u _ _ hZ huZ hl5) q541 mX0_taught rfl dX0_schoolOf_44 (by decide) (Nat.le_of_ble_eq_true rfl) ?_
          refine r_iinc (pc := 47) _ C dX0_schoolOf_47 rfl (nI_1 i) (by decide) ?_
          refine r_goto (pc := 50) 2 C dX0_schoolOf_50 (by decide) ?_
          rw [x_so, if_pos c18, if_pos c36] at K2
          exact K2
        · refine r_iconst (pc := 39) (1) C dX0_schoolOf_39 (by decide) ?_
          refine r_goto (pc := 40) 44 C dX0_schoolOf_40 (by decide) ?_
          refine X_cQv (pc := 44) C (cX_taught B a (x_drawS Z) u _ _ hZ huZ hl5) q541 mX0_taught rfl dX0_schoolOf_44 (by decide) (Nat.le_of_ble_eq_true rfl) ?_
          refine r_iinc (pc := 47) _ C dX0_schoolOf_47 rfl (nI_1 i) (by decide) ?_
          refine r_goto (pc := 50) 2 C dX0_schoolOf_50 (by decide) ?_
          rw [x_so, if_pos c18, if_neg c36] at K2
          exact K2
  · have e0 := ((SoI.rf hI).nf hu _ hI.les.2).2.2.2.2 0 (by decide)
    refine r_iload_n (pc := 2) C dX0_schoolOf_2 rfl ?_
    refine r_aload_n (pc := 3) C dX0_schoolOf_3 rfl ?_
    refine X_g0 (pc := 4) C dX0_schoolOf_4 ?_
    refine r_icmp_ge (pc := 7) 53 C dX0_schoolOf_7 (by decide) (fun c7 => ?_) (fun c7 => ?_)
    · exact r_vret (pc := 53) C hR dX0_schoolOf_53 (by decide) (by decide) rfl
    · rw [e0] at c7
      exact absurd (lp_out hI.les (by decide)) c7

theorem sw9 (w : Int32) : w = 0 ∨ w = 1 ∨ w = 2 ∨ w = 3 ∨ w = 4 ∨ w = 5 ∨ w = 6 ∨ w = 7 ∨ w = 8 ∨ ((w.toInt < 0 ∨ 8 < w.toInt) ∧ ¬ w = 0 ∧ ¬ w = 1 ∧ ¬ w = 2 ∧ ¬ w = 3 ∧ ¬ w = 4 ∧ ¬ w = 5 ∧ ¬ w = 6 ∧ ¬ w = 7 ∧ ¬ w = 8) := by
  have e : ∀ v : Int32, (w = v ↔ w.toInt = v.toInt) := fun v => Int32.toInt_inj.symm
  simp only [e]
  rw [show (0 : Int32).toInt = 0 from rfl, show (1 : Int32).toInt = 1 from rfl, show (2 : Int32).toInt = 2 from rfl, show (3 : Int32).toInt = 3 from rfl, show (4 : Int32).toInt = 4 from rfl, show (5 : Int32).toInt = 5 from rfl, show (6 : Int32).toInt = 6 from rfl, show (7 : Int32).toInt = 7 from rfl, show (8 : Int32).toInt = 8 from rfl]
  omega
set_option maxHeartbeats 4000000 in
theorem cX_count {G : Gx} (B : Base G) (a : Nat → Nat) (S : StX) (w : Int32) (hI : IX S) : Ci G yX0_count cX0_count 2 .int (rmD 2) (wX G a) S [.ref (a 0), .int w] (fun r S' => r = x_count S w ∧ S' = S) := by
  refine Ci.of B [some (.ref (a 0)), some (.int w)] (by decide) rfl (Nat.le_of_ble_eq_true rfl) (fun E C hR => ?_)
  have C : CxOk E RX0 cX0_count 2 G (rmD 2) := C
  refine r_iload_n (pc := 0) C dX0_count_0 rfl ?_
  rcases sw9 w with rfl | rfl | rfl | rfl | rfl | rfl | rfl | rfl | rfl | hw
  · refine r_tblIn (pc := 1) (off := 51) 52 C dX0_count_1 (by decide) (by decide) rfl (by decide) ?_
    refine r_aload_n (pc := 52) C dX0_count_52 rfl ?_
    refine X_g0 (pc := 53) C dX0_count_53 ?_
    exact r_iret (pc := 56) C hR dX0_count_56 (by decide) (by decide) ⟨rfl, rfl⟩
  · refine r_tblIn (pc := 1) (off := 56) 57 C dX0_count_1 (by decide) (by decide) rfl (by decide) ?_
    refine r_aload_n (pc := 57) C dX0_count_57 rfl ?_
    refine X_g1 (pc := 58) C dX0_count_58 ?_
    exact r_iret (pc := 61) C hR dX0_count_61 (by decide) (by decide) ⟨rfl, rfl⟩
  · refine r_tblIn (pc := 1) (off := 61) 62 C dX0_count_1 (by decide) (by decide) rfl (by decide) ?_
    refine r_aload_n (pc := 62) C dX0_count_62 rfl ?_
    refine X_g7 (pc := 63) C dX0_count_63 ?_
    exact r_iret (pc := 66) C hR dX0_count_66 (by decide) (by decide) ⟨rfl, rfl⟩
  · refine r_tblIn (pc := 1) (off := 66) 67 C dX0_count_1 (by decide) (by decide) rfl (by decide) ?_
    refine r_aload_n (pc := 67) C dX0_count_67 rfl ?_
    refine X_cQi (pc := 68) C (cX_stripesAll B a _) q644 mX0_stripesAll rfl dX0_count_68 (by decide) (Nat.le_of_ble_eq_true rfl) ?_
    exact r_iret (pc := 71) C hR dX0_count_71 (by decide) (by decide) ⟨rfl, rfl⟩
  · refine r_tblIn (pc := 1) (off := 71) 72 C dX0_count_1 (by decide) (by decide) rfl (by decide) ?_
    refine r_aload_n (pc := 72) C dX0_count_72 rfl ?_
    refine X_cQi (pc := 73) C (cX_learntAll B a _ (by first | assumption | exact hI)) q660 mX0_learntAll rfl dX0_count_73 (by decide) (Nat.le_of_ble_eq_true rfl) ?_
    exact r_iret (pc := 76) C hR dX0_count_76 (by decide) (by decide) ⟨rfl, rfl⟩
  · refine r_tblIn (pc := 1) (off := 76) 77 C dX0_count_1 (by decide) (by decide) rfl (by decide) ?_
    refine r_aload_n (pc := 77) C dX0_count_77 rfl ?_
    refine X_g21 (pc := 78) C dX0_count_78 ?_
    exact r_iret (pc := 81) C hR dX0_count_81 (by decide) (by decide) ⟨rfl, rfl⟩
  · refine r_tblIn (pc := 1) (off := 81) 82 C dX0_count_1 (by decide) (by decide) rfl (by decide) ?_
    refine r_aload_n (pc := 82) C dX0_count_82 rfl ?_
    refine X_g10 (pc := 83) C dX0_count_83 ?_
    exact r_iret (pc := 86) C hR dX0_count_86 (by decide) (by decide) ⟨rfl, rfl⟩
  · refine r_tblIn (pc := 1) (off := 86) 87 C dX0_count_1 (by decide) (by decide) rfl (by decide) ?_
    refine r_aload_n (pc := 87) C dX0_count_87 rfl ?_
    refine X_g2 (pc := 88) C dX0_count_88 ?_
    exact r_iret (pc := 91) C hR dX0_count_91 (by decide) (by decide) ⟨rfl, rfl⟩
  · refine r_tblIn (pc := 1) (off := 91) 92 C dX0_count_1 (by decide) (by decide) rfl (by decide) ?_
    refine r_aload_n (pc := 92) C dX0_count_92 rfl ?_
    refine X_g11 (pc := 93) C dX0_count_93 ?_
    exact r_iret (pc := 96) C hR dX0_count_96 (by decide) (by decide) ⟨rfl, rfl⟩
  · refine r_tblOut (pc := 1) 97 C dX0_count_1 hw.1 (by decide) ?_
    refine r_bipush (pc := 97) (-102) C dX0_count_97 (by decide) ?_
    exact r_iret (pc := 99) C hR dX0_count_99 (by decide) (by decide) (by refine ⟨?_, ?_⟩ <;> (try simp only [x_count, hw, ↓reduceIte]) <;> (try rfl))

set_option maxHeartbeats 4000000 in
theorem cX_note {G : Gx} (B : Base G) (a : Nat → Nat) (S : StX) (v : Int64) : Cv G yX0_note cX0_note 3 (rmD 0) (wX G a) S [.ref (a 0), .long v] (fun S' => S' = x_note S v) := by
  refine Cv.of B [some (.ref (a 0)), some (.long v), none] (by decide) rfl (Nat.le_of_ble_eq_true rfl) (fun E C hR => ?_)
  have C : CxOk E RX0 cX0_note 3 G (rmD 0) := C
  refine r_aload_n (pc := 0) C dX0_note_0 rfl ?_
  refine r_ldc2 (pc := 1) C dX0_note_1 q685 ?_
  refine r_aload_n (pc := 4) C dX0_note_4 rfl ?_
  refine X_g34 (pc := 5) C dX0_note_5 ?_
  refine r_lmul (pc := 8) C dX0_note_8 ?_
  refine r_lload_n (pc := 9) C dX0_note_9 rfl ?_
  refine r_ladd (pc := 10) C dX0_note_10 ?_
  refine X_p34 (pc := 11) C dX0_note_11 ?_
  exact r_vret (pc := 14) C hR dX0_note_14 (by decide) (by decide) rfl

