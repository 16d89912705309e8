
set_option maxRecDepth 100000
def hx (h : Int64) (v : Int32) : Int64 := 31 * h + v.toInt64
def x_hd (S : StX) (j b : Nat → Int32) (h : Int64) : StX := setXl (x_sc S j b) 34 h
theorem x_note_hd (S : StX) (j b : Nat → Int32) (h : Int64) (v : Int32) : x_note (x_hd S j b h) v.toInt64 = x_hd S j b (hx h v) := by
  unfold x_note x_hd setXl
  show ((x_sc S j b).1, va_up (va_up (x_sc S j b).2.1 34 h) 34 (31 * h + v.toInt64), (x_sc S j b).2.2) = _
  rw [up_up]
  rfl
theorem x_sc_hd (S : StX) (j b j' b' : Nat → Int32) (h : Int64) : x_sc (x_hd S j b h) j' b' = x_hd S j' b' h := by
  unfold x_hd
  show setXl (x_sc (x_sc S j b) j' b') 34 h = _
  rw [show x_sc (x_sc S j b) j' b' = setXa (setXa (x_sc S j b) 16 j') 17 b' from rfl, x_sc16, x_sc17]
theorem x_hd_id (S : StX) (h : Int64) : setXl S 34 h = x_hd S (xar S 16) (xar S 17) h := by
  unfold x_hd
  rw [x_sc_id]
def x_nl1 (S : StX) (l : Int32) (i : Nat) (h : Int64) : Int64 := hx h (x_tellLesson S l (nI i))
def x_nl2 (S : StX) (l : Int32) (i : Nat) (h : Int64) : Int64 := if nI i < 2 then hx h (x_tellMatch S l (nI i)) else if nI i ≤ 9 then h else hx h (x_tellMatch S l (nI i))
def x_nl (S : StX) (l : Int32) (h : Int64) : Int64 := nf (x_nl2 S l) 13 (nf (x_nl1 S l) 3 h)
def x_np1 (S : StX) (u : Nat) (i : Nat) (h : Int64) : Int64 := if nI i < 5 then hx h (x_tellPrince S u (nI i)) else if nI i ≤ 9 then h else hx h (x_tellPrince S u (nI i))
def x_np2 (S : StX) (u : Nat) (i : Nat) (h : Int64) : Int64 := hx h (x_tenthsOf S u (nI i))
def x_np (S : StX) (u : Nat) (h : Int64) : Int64 := hx (nf (x_np2 S u) (S.1 0).toNatClampNeg (nf (x_np1 S u) 13 h)) (x_fondnessOf S u)
def x_k (S : StX) : Nat := if x_isThere S = 0 then 0 else 3
def x_d1 (S : StX) (i : Nat) (h : Int64) : Int64 := hx h (xar S 5 i)
def x_d2 (S : StX) (i : Nat) (h : Int64) : Int64 := x_nl S (nI i) h
def x_d3 (S : StX) (i : Nat) (h : Int64) : Int64 := x_np S i h
def x_d4 (S : StX) (i : Nat) (h : Int64) : Int64 := hx h (xar S 9 i)
def x_d5 (S : StX) (i : Nat) (h : Int64) : Int64 := hx h (x_count S (nI i))
def x_digest (S : StX) : Int64 := nf (x_d5 S) 9 (nf (x_d4 S) (S.1 10).toNatClampNeg (nf (x_d3 S) (S.1 7).toNatClampNeg (nf (x_d2 S) (S.1 0).toNatClampNeg (nf (x_d1 S) (x_k S) 877))))
theorem x_count_hd (S : StX) (j b : Nat → Int32) (h : Int64) (w : Int32) : x_count (x_hd S j b h) w = x_count S w := rfl
theorem x_hd_h (S : StX) (j b : Nat → Int32) (h : Int64) : (x_hd S j b h).2.1 34 = h := rfl
theorem nf_s {α : Type} (f : Nat → α → α) (n : Nat) (a : α) : nf f (n + 1) a = f n (nf f n a) := rfl
theorem x_d1_e (S : StX) (i : Nat) (h : Int64) : x_d1 S i h = hx h (xar S 5 i) := rfl
theorem x_d2_e (S : StX) (i : Nat) (h : Int64) : x_d2 S i h = x_nl S (nI i) h := rfl
theorem x_d3_e (S : StX) (i : Nat) (h : Int64) : x_d3 S i h = x_np S i h := rfl
theorem x_d4_e (S : StX) (i : Nat) (h : Int64) : x_d4 S i h = hx h (xar S 9 i) := rfl
theorem x_d5_e (S : StX) (i : Nat) (h : Int64) : x_d5 S i h = hx h (x_count S (nI i)) := rfl
theorem hw_ok : ∀ i, i < 13 → (nI i < 2 ∨ ¬ nI i ≤ 9) → (¬ jin (nI i) 0 1 = 0 ∨ ¬ jin (nI i) 10 12 = 0) := by decide +kernel
theorem R13 : Rg 13 13 := ⟨rfl, Nat.le_refl _⟩
def m_hd (T : StM) (h : Int64) : StM := setMl T 39 h
theorem m_mix_hd (T : StM) (h : Int64) (v : Int32) : m_mix (m_hd T h) v.toInt64 = m_hd T (hx h v) := by
  unfold m_mix m_hd setMl
  show (T.1, va_up (va_up T.2.1 39 h) 39 (31 * h + v.toInt64), T.2.2) = _
  rw [up_up]
  rfl
theorem m_count_hd (T : StM) (h : Int64) (w : Int32) : m_count (m_hd T h) w = m_count T w := rfl
theorem m_hd_h (T : StM) (h : Int64) : (m_hd T h).2.1 39 = h := rfl
def m_nl1 (T : StM) (l : Int32) (i : Nat) (h : Int64) : Int64 := hx h (m_lessonNow T l (nI i))
def m_nl2 (T : StM) (l : Int32) (i : Nat) (h : Int64) : Int64 := hx h (m_matchNow T l (nI (10 + i)))
def m_nl (T : StM) (l : Int32) (h : Int64) : Int64 := nf (m_nl2 T l) 3 (hx (hx (nf (m_nl1 T l) 3 h) (m_matchNow T l 0)) (m_matchNow T l 1))
def m_np1 (T : StM) (p : Int32) (i : Nat) (h : Int64) : Int64 := if nI i < 5 then hx h (m_princeNow T p (nI i)) else if nI i ≤ 9 then h else hx h (m_princeNow T p (nI i))
def m_np2 (T : StM) (p : Int32) (i : Nat) (h : Int64) : Int64 := hx h (m_tenthsNow T p (nI i))
def m_np (T : StM) (p : Int32) (h : Int64) : Int64 := hx (nf (m_np2 T p) (T.1 1).toNatClampNeg (nf (m_np1 T p) 13 h)) (m_fondnessNow T p)
def m_k (T : StM) : Nat := if T.1 1 ≤ 0 then 0 else 3
def m_d1 (T : StM) (i : Nat) (h : Int64) : Int64 := hx h (mar T 5 i)
def m_d2 (T : StM) (i : Nat) (h : Int64) : Int64 := m_nl T (nI i) h
def m_d3 (T : StM) (i : Nat) (h : Int64) : Int64 := m_np T (nI i) h
def m_d4 (T : StM) (i : Nat) (h : Int64) : Int64 := hx h (mar T 18 i)
def m_d5 (T : StM) (i : Nat) (h : Int64) : Int64 := hx h (m_count T (nI i))
def m_digest (T : StM) : Int64 := nf (m_d5 T) 9 (nf (m_d4 T) (T.1 17).toNatClampNeg (nf (m_d3 T) (T.1 6).toNatClampNeg (nf (m_d2 T) (T.1 1).toNatClampNeg (nf (m_d1 T) (m_k T) 877))))
theorem m_d1_e (T : StM) (i : Nat) (h : Int64) : m_d1 T i h = hx h (mar T 5 i) := rfl
theorem m_d2_e (T : StM) (i : Nat) (h : Int64) : m_d2 T i h = m_nl T (nI i) h := rfl
theorem m_d3_e (T : StM) (i : Nat) (h : Int64) : m_d3 T i h = m_np T (nI i) h := rfl
theorem m_d4_e (T : StM) (i : Nat) (h : Int64) : m_d4 T i h = hx h (mar T 18 i) := rfl
theorem m_d5_e (T : StM) (i : Nat) (h : Int64) : m_d5 T i h = hx h (m_count T (nI i)) := rfl
theorem hp_ok : ∀ i, i < 13 → (nI i < 5 ∨ ¬ nI i ≤ 9) → (¬ jin (nI i) 0 4 = 0 ∨ ¬ jin (nI i) 10 12 = 0) := by decide +kernel
theorem hm_ok : ∀ i, i < 3 → (¬ jin (nI (10 + i)) 0 1 = 0 ∨ ¬ jin (nI (10 + i)) 10 12 = 0) := by decide +kernel

set_option maxHeartbeats 4000000 in
theorem cX_noteLesson {G : Gx} (B : Base G) (a : Nat → Nat) (S : StX) (j b : Nat → Int32) (h : Int64) (l : Int32) (hI : IX S) (hl : vp_in l 5) : Cv G yX0_noteLesson cX0_noteLesson 3 (rmD 6) (wX G a) (x_hd S j b h) [.ref (a 0), .int l] (fun S' => ∃ j' b', S' = x_hd S j' b' (x_nl S l h)) := by
  refine Cv.of B [some (.ref (a 0)), some (.int l), none] (by decide) rfl (Nat.le_of_ble_eq_true rfl) (fun E C hR => ?_)
  have C : CxOk E RX0 cX0_noteLesson 3 G (rmD 6) := C
  refine r_iconst (pc := 0) (0) C dX0_noteLesson_0 (by decide) ?_
  refine r_istore_n (pc := 1) C dX0_noteLesson_1 (by decide) ?_
  refine V_for (P := fun i z => V E 3 0 0 (wX G a (x_hd S j b z)) 2 [some (.ref (a 0)), some (.int l), some (.int (nI i))] []) (x_nl1 S l) h 3 (fun i hi K2 => ?_) ?_
  · refine r_iload_n (pc := 2) C dX0_noteLesson_2 rfl ?_
    refine r_iconst (pc := 3) (3) C dX0_noteLesson_3 (by decide) ?_
    refine r_icmp_ge (pc := 4) 24 C dX0_noteLesson_4 (by decide) (fun c4 => ?_) (fun c4 => ?_)
    · exact absurd c4 (lp_in R33 (by decide) hi)
    · refine r_aload_n (pc := 7) C dX0_noteLesson_7 rfl ?_
      refine r_aload_n (pc := 8) C dX0_noteLesson_8 rfl ?_
      refine r_iload_n (pc := 9) C dX0_noteLesson_9 rfl ?_
      refine r_iload_n (pc := 10) C dX0_noteLesson_10 rfl ?_
      refine X_cQi (pc := 11) C (cX_tellLesson B a _ _ _ (by exact hI) hl) q246 mX0_tellLesson rfl dX0_noteLesson_11 (by decide) (Nat.le_of_ble_eq_true rfl) ?_
      refine r_i2l (pc := 14) C dX0_noteLesson_14 ?_
      refine X_cQv (pc := 15) C (cX_note B a _ _) q681 mX0_note rfl dX0_noteLesson_15 (by decide) (Nat.le_of_ble_eq_true rfl) ?_
      rw [x_note_hd]
      refine r_iinc (pc := 18) _ C dX0_noteLesson_18 rfl (nI_1 i) (by decide) ?_
      refine r_goto (pc := 21) 2 C dX0_noteLesson_21 (by decide) ?_
      exact K2
  · refine r_iload_n (pc := 2) C dX0_noteLesson_2 rfl ?_
    refine r_iconst (pc := 3) (3) C dX0_noteLesson_3 (by decide) ?_
    refine r_icmp_ge (pc := 4) 24 C dX0_noteLesson_4 (by decide) (fun c4 => ?_) (fun c4 => ?_)
    · refine r_iconst (pc := 24) (0) C dX0_noteLesson_24 (by decide) ?_
      refine r_istore_n (pc := 25) C dX0_noteLesson_25 (by decide) ?_
      refine V_for (P := fun i z => ∀ j b, V E 3 0 0 (wX G a (x_hd S j b z)) 26 [some (.ref (a 0)), some (.int l), some (.int (nI i))] []) (x_nl2 S l) (nf (x_nl1 S l) 3 h) 13 (fun i hi K26 j b => ?_) (fun j b => ?_) j b
      · refine r_iload_n (pc := 26) C dX0_noteLesson_26 rfl ?_
        refine r_bipush (pc := 27) (13) C dX0_noteLesson_27 (by decide) ?_
        refine r_icmp_ge (pc := 29) 60 C dX0_noteLesson_29 (by decide) (fun c29 => ?_) (fun c29 => ?_)
        · exact absurd c29 (lp_in R13 (by decide) hi)
        · refine r_iload_n (pc := 32) C dX0_noteLesson_32 rfl ?_
          refine r_iconst (pc := 33) (2) C dX0_noteLesson_33 (by decide) ?_
          refine r_icmp_lt (pc := 34) 43 C dX0_noteLesson_34 (by decide) (fun c34 => ?_) (fun c34 => ?_)
          · have hw := hw_ok i hi (Or.inl c34)
            refine r_aload_n (pc := 43) C dX0_noteLesson_43 rfl ?_
            refine r_aload_n (pc := 44) C dX0_noteLesson_44 rfl ?_
            refine r_iload_n (pc := 45) C dX0_noteLesson_45 rfl ?_
            refine r_iload_n (pc := 46) C dX0_noteLesson_46 rfl ?_
            refine X_cIi (pc := 47) C (cX_tellMatch B a _ _ _ (by exact hI) hl hw) q590 mX0_tellMatch rfl dX0_noteLesson_47 (by decide) (Nat.le_of_ble_eq_true rfl) (fun r1 S1 h1 => ?_)
            obtain ⟨rfl, j1, b1, rfl⟩ := h1
            rw [x_sc_hd]
            refine r_i2l (pc := 50) C dX0_noteLesson_50 ?_
            refine X_cQv (pc := 51) C (cX_note B a _ _) q681 mX0_note rfl dX0_noteLesson_51 (by decide) (Nat.le_of_ble_eq_true rfl) ?_
            rw [x_note_hd]
            refine r_iinc (pc := 54) _ C dX0_noteLesson_54 rfl (nI_1 i) (by decide) ?_
            refine r_goto (pc := 57) 26 C dX0_noteLesson_57 (by decide) ?_
            rw [show nf (x_nl2 S l) (i + 1) (nf (x_nl1 S l) 3 h) = x_nl2 S l i (nf (x_nl2 S l) i (nf (x_nl1 S l) 3 h)) from rfl, x_nl2, if_pos c34] at K26
            exact K26 j1 b1
          · refine r_iload_n (pc := 37) C dX0_noteLesson_37 rfl ?_
            refine r_bipush (pc := 38) (9) C dX0_noteLesson_38 (by decide) ?_
            refine r_icmp_le (pc := 40) 54 C dX0_noteLesson_40 (by decide) (fun c40 => ?_) (fun c40 => ?_)
            · skip
              refine r_iinc (pc := 54) _ C dX0_noteLesson_54 rfl (nI_1 i) (by decide) ?_
              refine r_goto (pc := 57) 26 C dX0_noteLesson_57 (by decide) ?_
              rw [show nf (x_nl2 S l) (i + 1) (nf (x_nl1 S l) 3 h) = x_nl2 S l i (nf (x_nl2 S l) i (nf (x_nl1 S l) 3 h)) from rfl, x_nl2, if_neg c34, if_pos c40] at K26
              exact K26 j b
            · have hw := hw_ok i hi (Or.inr c40)
              refine r_aload_n (pc := 43) C dX0_noteLesson_43 rfl ?_
              refine r_aload_n (pc := 44) C dX0_noteLesson_44 rfl ?_
              refine r_iload_n (pc := 45) C dX0_noteLesson_45 rfl ?_
              refine r_iload_n (pc := 46) C dX0_noteLesson_46 rfl ?_
              refine X_cIi (pc := 47) C (cX_tellMatch B a _ _ _ (by exact hI) hl hw) q590 mX0_tellMatch rfl dX0_noteLesson_47 (by decide) (Nat.le_of_ble_eq_true rfl) (fun r1 S1 h1 => ?_)
              obtain ⟨rfl, j1, b1, rfl⟩ := h1
              rw [x_sc_hd]
              refine r_i2l (pc := 50) C dX0_noteLesson_50 ?_
              refine X_cQv (pc := 51) C (cX_note B a _ _) q681 mX0_note rfl dX0_noteLesson_51 (by decide) (Nat.le_of_ble_eq_true rfl) ?_
              rw [x_note_hd]
              refine r_iinc (pc := 54) _ C dX0_noteLesson_54 rfl (nI_1 i) (by decide) ?_
              refine r_goto (pc := 57) 26 C dX0_noteLesson_57 (by decide) ?_
              rw [show nf (x_nl2 S l) (i + 1) (nf (x_nl1 S l) 3 h) = x_nl2 S l i (nf (x_nl2 S l) i (nf (x_nl1 S l) 3 h)) from rfl, x_nl2, if_neg c34, if_neg c40] at K26
              exact K26 j1 b1
      · refine r_iload_n (pc := 26) C dX0_noteLesson_26 rfl ?_
        refine r_bipush (pc := 27) (13) C dX0_noteLesson_27 (by decide) ?_
        refine r_icmp_ge (pc := 29) 60 C dX0_noteLesson_29 (by decide) (fun c29 => ?_) (fun c29 => ?_)
        · exact r_vret (pc := 60) C hR dX0_noteLesson_60 (by decide) (by decide) ⟨j, b, rfl⟩
        · exact absurd (lp_out R13 (by decide)) c29
    · exact absurd (lp_out R33 (by decide)) c4

set_option maxHeartbeats 4000000 in
theorem cX_notePrince {G : Gx} (B : Base G) (a : Nat → Nat) (S : StX) (j b : Nat → Int32) (h : Int64) (u : Nat) (hI : IX S) (hu : u < xnp S) : Cv G yX0_notePrince cX0_notePrince 3 (rmD 6) (wX G a) (x_hd S j b h) [.ref (a 0), .ref (xpa S u)] (fun S' => S' = x_hd S j b (x_np S u h)) := by
  refine Cv.of B [some (.ref (a 0)), some (.ref (xpa S u)), none] (by decide) rfl (Nat.le_of_ble_eq_true rfl) (fun E C hR => ?_)
  have C : CxOk E RX0 cX0_notePrince 3 G (rmD 6) := C
  refine r_iconst (pc := 0) (0) C dX0_notePrince_0 (by decide) ?_
  refine r_istore_n (pc := 1) C dX0_notePrince_1 (by decide) ?_
  refine V_for (P := fun i z => V E 3 0 0 (wX G a (x_hd S j b z)) 2 [some (.ref (a 0)), some (.ref (xpa S u)), some (.int (nI i))] []) (x_np1 S u) h 13 (fun i hi K2 => ?_) ?_
  · refine r_iload_n (pc := 2) C dX0_notePrince_2 rfl ?_
    refine r_bipush (pc := 3) (13) C dX0_notePrince_3 (by decide) ?_
    refine r_icmp_ge (pc := 5) 36 C dX0_notePrince_5 (by decide) (fun c5 => ?_) (fun c5 => ?_)
    · exact absurd c5 (lp_in R13 (by decide) hi)
    · refine r_iload_n (pc := 8) C dX0_notePrince_8 rfl ?_
      refine r_iconst (pc := 9) (5) C dX0_notePrince_9 (by decide) ?_
      refine r_icmp_lt (pc := 10) 19 C dX0_notePrince_10 (by decide) (fun c10 => ?_) (fun c10 => ?_)
      · refine r_aload_n (pc := 19) C dX0_notePrince_19 rfl ?_
        refine r_aload_n (pc := 20) C dX0_notePrince_20 rfl ?_
        refine r_aload_n (pc := 21) C dX0_notePrince_21 rfl ?_
        refine r_iload_n (pc := 22) C dX0_notePrince_22 rfl ?_
        refine X_cQi (pc := 23) C (cX_tellPrince B a (x_hd S j b _) u _ hI hu) q370 mX0_tellPrince rfl dX0_notePrince_23 (by decide) (Nat.le_of_ble_eq_true rfl) ?_
        refine r_i2l (pc := 26) C dX0_notePrince_26 ?_
        refine X_cQv (pc := 27) C (cX_note B a _ _) q681 mX0_note rfl dX0_notePrince_27 (by decide) (Nat.le_of_ble_eq_true rfl) ?_
        rw [x_note_hd]
        refine r_iinc (pc := 30) _ C dX0_notePrince_30 rfl (nI_1 i) (by decide) ?_
        refine r_goto (pc := 33) 2 C dX0_notePrince_33 (by decide) ?_
        rw [show nf (x_np1 S u) (i + 1) h = x_np1 S u i (nf (x_np1 S u) i h) from rfl, x_np1, if_pos c10] at K2
        exact K2
      · refine r_iload_n (pc := 13) C dX0_notePrince_13 rfl ?_
        refine r_bipush (pc := 14) (9) C dX0_notePrince_14 (by decide) ?_
        refine r_icmp_le (pc := 16) 30 C dX0_notePrince_16 (by decide) (fun c16 => ?_) (fun c16 => ?_)
        · skip
          refine r_iinc (pc := 30) _ C dX0_notePrince_30 rfl (nI_1 i) (by decide) ?_
          refine r_goto (pc := 33) 2 C dX0_notePrince_33 (by decide) ?_
          rw [show nf (x_np1 S u) (i + 1) h = x_np1 S u i (nf (x_np1 S u) i h) from rfl, x_np1, if_neg c10, if_pos c16] at K2
          exact K2
        · refine r_aload_n (pc := 19) C dX0_notePrince_19 rfl ?_
          refine r_aload_n (pc := 20) C dX0_notePrince_20 rfl ?_
          refine r_aload_n (pc := 21) C dX0_notePrince_21 rfl ?_
          refine r_iload_n (pc := 22) C dX0_notePrince_22 rfl ?_
          refine X_cQi (pc := 23) C (cX_tellPrince B a (x_hd S j b _) u _ hI hu) q370 mX0_tellPrince rfl dX0_notePrince_23 (by decide) (Nat.le_of_ble_eq_true rfl) ?_
          refine r_i2l (pc := 26) C dX0_notePrince_26 ?_
          refine X_cQv (pc := 27) C (cX_note B a _ _) q681 mX0_note rfl dX0_notePrince_27 (by decide) (Nat.le_of_ble_eq_true rfl) ?_
          rw [x_note_hd]
          refine r_iinc (pc := 30) _ C dX0_notePrince_30 rfl (nI_1 i) (by decide) ?_
          refine r_goto (pc := 33) 2 C dX0_notePrince_33 (by decide) ?_
          rw [show nf (x_np1 S u) (i + 1) h = x_np1 S u i (nf (x_np1 S u) i h) from rfl, x_np1, if_neg c10, if_neg c16] at K2
          exact K2
  · refine r_iload_n (pc := 2) C dX0_notePrince_2 rfl ?_
    refine r_bipush (pc := 3) (13) C dX0_notePrince_3 (by decide) ?_
    refine r_icmp_ge (pc := 5) 36 C dX0_notePrince_5 (by decide) (fun c5 => ?_) (fun c5 => ?_)
    · refine r_iconst (pc := 36) (0) C dX0_notePrince_36 (by decide) ?_
      refine r_istore_n (pc := 37) C dX0_notePrince_37 (by decide) ?_
      refine V_for (P := fun i z => V E 3 0 0 (wX G a (x_hd S j b z)) 38 [some (.ref (a 0)), some (.ref (xpa S u)), some (.int (nI i))] []) (x_np2 S u) (nf (x_np1 S u) 13 h) (S.1 0).toNatClampNeg (fun i hi K38 => ?_) ?_
      · have hl5 : vp_in (nI i) 5 := vp_in_nI (Nat.lt_of_lt_of_le hi hI.les.2) (by decide)
        refine r_iload_n (pc := 38) C dX0_notePrince_38 rfl ?_
        refine r_aload_n (pc := 39) C dX0_notePrince_39 rfl ?_
        refine X_g0 (pc := 40) C dX0_notePrince_40 ?_
        refine r_icmp_ge (pc := 43) 63 C dX0_notePrince_43 (by decide) (fun c43 => ?_) (fun c43 => ?_)
        · exact absurd c43 (lp_in hI.les (by decide) hi)
        · refine r_aload_n (pc := 46) C dX0_notePrince_46 rfl ?_
          refine r_aload_n (pc := 47) C dX0_notePrince_47 rfl ?_
          refine r_aload_n (pc := 48) C dX0_notePrince_48 rfl ?_
          refine r_iload_n (pc := 49) C dX0_notePrince_49 rfl ?_
          refine X_cQi (pc := 50) C (cX_tenthsOf B a (x_hd S j b _) u _ hI hu hl5) q523 mX0_tenthsOf rfl dX0_notePrince_50 (by decide) (Nat.le_of_ble_eq_true rfl) ?_
          refine r_i2l (pc := 53) C dX0_notePrince_53 ?_
          refine X_cQv (pc := 54) C (cX_note B a _ _) q681 mX0_note rfl dX0_notePrince_54 (by decide) (Nat.le_of_ble_eq_true rfl) ?_
          rw [x_note_hd]
          refine r_iinc (pc := 57) _ C dX0_notePrince_57 rfl (nI_1 i) (by decide) ?_
          refine r_goto (pc := 60) 38 C dX0_notePrince_60 (by decide) ?_
          exact K38
      · refine r_iload_n (pc := 38) C dX0_notePrince_38 rfl ?_
        refine r_aload_n (pc := 39) C dX0_notePrince_39 rfl ?_
        refine X_g0 (pc := 40) C dX0_notePrince_40 ?_
        refine r_icmp_ge (pc := 43) 63 C dX0_notePrince_43 (by decide) (fun c43 => ?_) (fun c43 => ?_)
        · refine r_aload_n (pc := 63) C dX0_notePrince_63 rfl ?_
          refine r_aload_n (pc := 64) C dX0_notePrince_64 rfl ?_
          refine r_aload_n (pc := 65) C dX0_notePrince_65 rfl ?_
          refine X_cQi (pc := 66) C (cX_fondnessOf B a (x_hd S j b _) u hI hu) q627 mX0_fondnessOf rfl dX0_notePrince_66 (by decide) (Nat.le_of_ble_eq_true rfl) ?_
          refine r_i2l (pc := 69) C dX0_notePrince_69 ?_
          refine X_cQv (pc := 70) C (cX_note B a _ _) q681 mX0_note rfl dX0_notePrince_70 (by decide) (Nat.le_of_ble_eq_true rfl) ?_
          rw [x_note_hd]
          exact r_vret (pc := 73) C hR dX0_notePrince_73 (by decide) (by decide) rfl
        · exact absurd (lp_out hI.les (by decide)) c43
    · exact absurd (lp_out R13 (by decide)) c5

theorem x_k_lt {S : StX} {i : Nat} (h : i < x_k S) : i < 3 ∧ ¬ x_isThere S = 0 := by
  unfold x_k at h
  split at h
  · omega
  · exact ⟨h, by assumption⟩
theorem x_k_out {S : StX} (h : ¬ x_isThere S = 0) : (3 : Int32) ≤ nI (x_k S) := by
  unfold x_k
  rw [if_neg h]
  decide
theorem m_k_lt {T : StM} {i : Nat} (h : i < m_k T) : i < 3 ∧ ¬ T.1 1 ≤ 0 := by
  unfold m_k at h
  split at h
  · omega
  · exact ⟨h, by assumption⟩
theorem m_k_out {T : StM} (h : ¬ T.1 1 ≤ 0) : (3 : Int32) ≤ nI (m_k T) := by
  unfold m_k
  rw [if_neg h]
  decide
set_option maxHeartbeats 4000000 in
theorem cX_digest {G : Gx} (B : Base G) (a : Nat → Nat) (S : StX) (hI : IX S) : Cl G yX0_digest cX0_digest 2 (rmD 7) (wX G a) S [.ref (a 0)] (fun r S' => r = x_digest S ∧ ∃ j b, S' = x_hd S j b (x_digest S)) := by
  refine Cl.of B [some (.ref (a 0)), none] (by decide) rfl (Nat.le_of_ble_eq_true rfl) (fun E C hR => ?_)
  have C : CxOk E RX0 cX0_digest 2 G (rmD 7) := C
  refine r_aload_n (pc := 0) C dX0_digest_0 rfl ?_
  refine r_ldc2 (pc := 1) C dX0_digest_1 q680 ?_
  refine X_p34 (pc := 4) C dX0_digest_4 ?_
  refine r_iconst (pc := 7) (0) C dX0_digest_7 (by decide) ?_
  refine r_istore_n (pc := 8) C dX0_digest_8 (by decide) ?_
  refine V_w (congrArg (wX G a) (x_hd_id S 877)) ?_
  refine V_for (P := fun i z => ∀ j b, V E 2 0 0 (wX G a (x_hd S j b z)) 9 [some (.ref (a 0)), some (.int (nI i))] []) (x_d1 S) 877 (x_k S) (fun i hi K9 j b => ?_) (fun j b => ?_) _ _
  · obtain ⟨hi3, hth⟩ := x_k_lt hi
    rw [nf_s, x_d1_e] at K9
    refine r_iload_n (pc := 9) C dX0_digest_9 rfl ?_
    refine r_iconst (pc := 10) (3) C dX0_digest_10 (by decide) ?_
    refine r_icmp_ge (pc := 11) 38 C dX0_digest_11 (by decide) (fun c11 => ?_) (fun c11 => ?_)
    · exact absurd c11 (nI_ge (b := 3) hi3 (by decide))
    · refine r_aload_n (pc := 14) C dX0_digest_14 rfl ?_
      refine X_cQi (pc := 15) C (cX_isThere B a _) q261 mX0_isThere rfl dX0_digest_15 (by decide) (Nat.le_of_ble_eq_true rfl) ?_
      refine r_if_eq (pc := 18) 38 C dX0_digest_18 (by decide) (fun c18 => ?_) (fun c18 => ?_)
      · exact absurd c18 hth
      · refine r_aload_n (pc := 21) C dX0_digest_21 rfl ?_
        refine r_aload_n (pc := 22) C dX0_digest_22 rfl ?_
        refine X_g5 (pc := 23) C dX0_digest_23 ?_
        refine r_iload_n (pc := 26) C dX0_digest_26 rfl ?_
        refine X_l5 (pc := 27) C dX0_digest_27 (vp_in_nI hi3 (by decide)) ?_
        rw [nI_clamp (by omega)]
        refine r_i2l (pc := 28) C dX0_digest_28 ?_
        refine X_cQv (pc := 29) C (cX_note B a _ _) q681 mX0_note rfl dX0_digest_29 (by decide) (Nat.le_of_ble_eq_true rfl) ?_
        rw [x_note_hd]
        refine r_iinc (pc := 32) _ C dX0_digest_32 rfl (nI_1 i) (by decide) ?_
        refine r_goto (pc := 35) 9 C dX0_digest_35 (by decide) ?_
        exact K9 j b
  · refine r_iload_n (pc := 9) C dX0_digest_9 rfl ?_
    refine r_iconst (pc := 10) (3) C dX0_digest_10 (by decide) ?_
    refine r_icmp_ge (pc := 11) 38 C dX0_digest_11 (by decide) (fun c11 => ?_) (fun c11 => ?_)
    · refine r_iconst (pc := 38) (0) C dX0_digest_38 (by decide) ?_
      refine r_istore_n (pc := 39) C dX0_digest_39 (by decide) ?_
      refine V_for (P := fun i z => ∀ j b, V E 2 0 0 (wX G a (x_hd S j b z)) 40 [some (.ref (a 0)), some (.int (nI i))] []) (x_d2 S) (nf (x_d1 S) (x_k S) 877) (S.1 0).toNatClampNeg (fun i hi K40 j b => ?_) (fun j b => ?_) j b
      · rw [nf_s, x_d2_e] at K40
        have hl5 : vp_in (nI i) 5 := vp_in_nI (Nat.lt_of_lt_of_le hi hI.les.2) (by decide)
        refine r_iload_n (pc := 40) C dX0_digest_40 rfl ?_
        refine r_aload_n (pc := 41) C dX0_digest_41 rfl ?_
        refine X_g0 (pc := 42) C dX0_digest_42 ?_
        refine r_icmp_ge (pc := 45) 59 C dX0_digest_45 (by decide) (fun c45 => ?_) (fun c45 => ?_)
        · exact absurd c45 (lp_in hI.les (by decide) hi)
        · refine r_aload_n (pc := 48) C dX0_digest_48 rfl ?_
          refine r_iload_n (pc := 49) C dX0_digest_49 rfl ?_
          refine X_cIv (pc := 50) C (cX_noteLesson B a S j b _ _ hI hl5) q686 mX0_noteLesson rfl dX0_digest_50 (by decide) (Nat.le_of_ble_eq_true rfl) (fun S1 h1 => ?_)
          obtain ⟨j1, b1, rfl⟩ := h1
          refine r_iinc (pc := 53) _ C dX0_digest_53 rfl (nI_1 i) (by decide) ?_
          refine r_goto (pc := 56) 40 C dX0_digest_56 (by decide) ?_
          exact K40 j1 b1
      · refine r_iload_n (pc := 40) C dX0_digest_40 rfl ?_
        refine r_aload_n (pc := 41) C dX0_digest_41 rfl ?_
        refine X_g0 (pc := 42) C dX0_digest_42 ?_
        refine r_icmp_ge (pc := 45) 59 C dX0_digest_45 (by decide) (fun c45 => ?_) (fun c45 => ?_)
        · refine r_iconst (pc := 59) (0) C dX0_digest_59 (by decide) ?_
          refine r_istore_n (pc := 60) C dX0_digest_60 (by decide) ?_
          refine V_for (P := fun i z => ∀ j b, V E 2 0 0 (wX G a (x_hd S j b z)) 61 [some (.ref (a 0)), some (.int (nI i))] []) (x_d3 S) (nf (x_d2 S) (S.1 0).toNatClampNeg (nf (x_d1 S) (x_k S) 877)) (S.1 7).toNatClampNeg (fun i hi K61 j b => ?_) (fun j b => ?_) j b
          · rw [nf_s, x_d3_e] at K61
            have hu : i < S.2.2.2.1 := Nat.lt_of_lt_of_le hi hI.mnp
            have hu3 : i < 3 := Nat.lt_of_lt_of_le hu hI.np
            refine r_iload_n (pc := 61) C dX0_digest_61 rfl ?_
            refine r_aload_n (pc := 62) C dX0_digest_62 rfl ?_
            refine X_g7 (pc := 63) C dX0_digest_63 ?_
            refine r_icmp_ge (pc := 66) 85 C dX0_digest_66 (by decide) (fun c66 => ?_) (fun c66 => ?_)
            · exact absurd c66 (lp_in hI.many (by decide) hi)
            · refine r_aload_n (pc := 69) C dX0_digest_69 rfl ?_
              refine r_aload_n (pc := 70) C dX0_digest_70 rfl ?_
              refine X_g6 (pc := 71) C dX0_digest_71 ?_
              refine r_iload_n (pc := 74) C dX0_digest_74 rfl ?_
              refine X_l6 (pc := 75) C dX0_digest_75 rfl hu hu3 ?_
              refine X_cQv (pc := 76) C (cX_notePrince B a S j b _ i hI hu) q690 mX0_notePrince rfl dX0_digest_76 (by decide) (Nat.le_of_ble_eq_true rfl) ?_
              refine r_iinc (pc := 79) _ C dX0_digest_79 rfl (nI_1 i) (by decide) ?_
              refine r_goto (pc := 82) 61 C dX0_digest_82 (by decide) ?_
              exact K61 j b
          · refine r_iload_n (pc := 61) C dX0_digest_61 rfl ?_
            refine r_aload_n (pc := 62) C dX0_digest_62 rfl ?_
            refine X_g7 (pc := 63) C dX0_digest_63 ?_
            refine r_icmp_ge (pc := 66) 85 C dX0_digest_66 (by decide) (fun c66 => ?_) (fun c66 => ?_)
            · refine r_iconst (pc := 85) (0) C dX0_digest_85 (by decide) ?_
              refine r_istore_n (pc := 86) C dX0_digest_86 (by decide) ?_
              refine V_for (P := fun i z => ∀ j b, V E 2 0 0 (wX G a (x_hd S j b z)) 87 [some (.ref (a 0)), some (.int (nI i))] []) (x_d4 S) (nf (x_d3 S) (S.1 7).toNatClampNeg (nf (x_d2 S) (S.1 0).toNatClampNeg (nf (x_d1 S) (x_k S) 877))) (S.1 10).toNatClampNeg (fun i hi K87 j b => ?_) (fun j b => ?_) j b
              · rw [nf_s, x_d4_e] at K87
                have hi18 : i < 18 := Nat.lt_of_lt_of_le hi hI.page.2
                refine r_iload_n (pc := 87) C dX0_digest_87 rfl ?_
                refine r_aload_n (pc := 88) C dX0_digest_88 rfl ?_
                refine X_g10 (pc := 89) C dX0_digest_89 ?_
                refine r_icmp_ge (pc := 92) 112 C dX0_digest_92 (by decide) (fun c92 => ?_) (fun c92 => ?_)
                · exact absurd c92 (lp_in hI.page (by decide) hi)
                · refine r_aload_n (pc := 95) C dX0_digest_95 rfl ?_
                  refine r_aload_n (pc := 96) C dX0_digest_96 rfl ?_
                  refine X_g9 (pc := 97) C dX0_digest_97 ?_
                  refine r_iload_n (pc := 100) C dX0_digest_100 rfl ?_
                  refine X_l9 (pc := 101) C dX0_digest_101 (vp_in_nI hi18 (by decide)) ?_
                  rw [nI_clamp (by omega)]
                  refine r_i2l (pc := 102) C dX0_digest_102 ?_
                  refine X_cQv (pc := 103) C (cX_note B a _ _) q681 mX0_note rfl dX0_digest_103 (by decide) (Nat.le_of_ble_eq_true rfl) ?_
                  rw [x_note_hd]
                  refine r_iinc (pc := 106) _ C dX0_digest_106 rfl (nI_1 i) (by decide) ?_
                  refine r_goto (pc := 109) 87 C dX0_digest_109 (by decide) ?_
                  exact K87 j b
              · refine r_iload_n (pc := 87) C dX0_digest_87 rfl ?_
                refine r_aload_n (pc := 88) C dX0_digest_88 rfl ?_
                refine X_g10 (pc := 89) C dX0_digest_89 ?_
                refine r_icmp_ge (pc := 92) 112 C dX0_digest_92 (by decide) (fun c92 => ?_) (fun c92 => ?_)
                · refine r_iconst (pc := 112) (0) C dX0_digest_112 (by decide) ?_
                  refine r_istore_n (pc := 113) C dX0_digest_113 (by decide) ?_
                  refine V_for (P := fun i z => ∀ j b, V E 2 0 0 (wX G a (x_hd S j b z)) 114 [some (.ref (a 0)), some (.int (nI i))] []) (x_d5 S) (nf (x_d4 S) (S.1 10).toNatClampNeg (nf (x_d3 S) (S.1 7).toNatClampNeg (nf (x_d2 S) (S.1 0).toNatClampNeg (nf (x_d1 S) (x_k S) 877)))) 9 (fun i hi K114 j b => ?_) (fun j b => ?_) j b
                  · rw [nf_s, x_d5_e] at K114
                    refine r_iload_n (pc := 114) C dX0_digest_114 rfl ?_
                    refine r_bipush (pc := 115) (9) C dX0_digest_115 (by decide) ?_
                    refine r_icmp_ge (pc := 117) 136 C dX0_digest_117 (by decide) (fun c117 => ?_) (fun c117 => ?_)
                    · exact absurd c117 (lp_in R99 (by decide) hi)
                    · refine r_aload_n (pc := 120) C dX0_digest_120 rfl ?_
                      refine r_aload_n (pc := 121) C dX0_digest_121 rfl ?_
                      refine r_iload_n (pc := 122) C dX0_digest_122 rfl ?_
                      refine X_cQi (pc := 123) C (cX_count B a _ _ (by exact hI)) q694 mX0_count rfl dX0_digest_123 (by decide) (Nat.le_of_ble_eq_true rfl) ?_
                      rw [x_count_hd]
                      refine r_i2l (pc := 126) C dX0_digest_126 ?_
                      refine X_cQv (pc := 127) C (cX_note B a _ _) q681 mX0_note rfl dX0_digest_127 (by decide) (Nat.le_of_ble_eq_true rfl) ?_
                      rw [x_note_hd]
                      refine r_iinc (pc := 130) _ C dX0_digest_130 rfl (nI_1 i) (by decide) ?_
                      refine r_goto (pc := 133) 114 C dX0_digest_133 (by decide) ?_
                      exact K114 j b
                  · refine r_iload_n (pc := 114) C dX0_digest_114 rfl ?_
                    refine r_bipush (pc := 115) (9) C dX0_digest_115 (by decide) ?_
                    refine r_icmp_ge (pc := 117) 136 C dX0_digest_117 (by decide) (fun c117 => ?_) (fun c117 => ?_)
                    · refine r_aload_n (pc := 136) C dX0_digest_136 rfl ?_
                      refine X_g34 (pc := 137) C dX0_digest_137 ?_
                      rw [x_hd_h, show nf (x_d5 S) 9 (nf (x_d4 S) (S.1 10).toNatClampNeg (nf (x_d3 S) (S.1 7).toNatClampNeg (nf (x_d2 S) (S.1 0).toNatClampNeg (nf (x_d1 S) (x_k S) 877)))) = x_digest S from rfl]
                      exact r_lret (pc := 140) C hR dX0_digest_140 (by decide) (by decide) ⟨rfl, j, b, rfl⟩
                    · exact absurd (lp_out R99 (by decide)) c117
                · exact absurd (lp_out hI.page (by decide)) c92
            · exact absurd (lp_out hI.many (by decide)) c66
        · exact absurd (lp_out hI.les (by decide)) c45
    · refine r_aload_n (pc := 14) C dX0_digest_14 rfl ?_
      refine X_cQi (pc := 15) C (cX_isThere B a _) q261 mX0_isThere rfl dX0_digest_15 (by decide) (Nat.le_of_ble_eq_true rfl) ?_
      refine r_if_eq (pc := 18) 38 C dX0_digest_18 (by decide) (fun c18 => ?_) (fun c18 => ?_)
      · refine r_iconst (pc := 38) (0) C dX0_digest_38 (by decide) ?_
        refine r_istore_n (pc := 39) C dX0_digest_39 (by decide) ?_
        refine V_for (P := fun i z => ∀ j b, V E 2 0 0 (wX G a (x_hd S j b z)) 40 [some (.ref (a 0)), some (.int (nI i))] []) (x_d2 S) (nf (x_d1 S) (x_k S) 877) (S.1 0).toNatClampNeg (fun i hi K40 j b => ?_) (fun j b => ?_) j b
        · rw [nf_s, x_d2_e] at K40
          have hl5 : vp_in (nI i) 5 := vp_in_nI (Nat.lt_of_lt_of_le hi hI.les.2) (by decide)
          refine r_iload_n (pc := 40) C dX0_digest_40 rfl ?_
          refine r_aload_n (pc := 41) C dX0_digest_41 rfl ?_
          refine X_g0 (pc := 42) C dX0_digest_42 ?_
          refine r_icmp_ge (pc := 45) 59 C dX0_digest_45 (by decide) (fun c45 => ?_) (fun c45 => ?_)
          · exact absurd c45 (lp_in hI.les (by decide) hi)
          · refine r_aload_n (pc := 48) C dX0_digest_48 rfl ?_
            refine r_iload_n (pc := 49) C dX0_digest_49 rfl ?_
            refine X_cIv (pc := 50) C (cX_noteLesson B a S j b _ _ hI hl5) q686 mX0_noteLesson rfl dX0_digest_50 (by decide) (Nat.le_of_ble_eq_true rfl) (fun S1 h1 => ?_)
            obtain ⟨j1, b1, rfl⟩ := h1
            refine r_iinc (pc := 53) _ C dX0_digest_53 rfl (nI_1 i) (by decide) ?_
            refine r_goto (pc := 56) 40 C dX0_digest_56 (by decide) ?_
            exact K40 j1 b1
        · refine r_iload_n (pc := 40) C dX0_digest_40 rfl ?_
          refine r_aload_n (pc := 41) C dX0_digest_41 rfl ?_
          refine X_g0 (pc := 42) C dX0_digest_42 ?_
          refine r_icmp_ge (pc := 45) 59 C dX0_digest_45 (by decide) (fun c45 => ?_) (fun c45 => ?_)
          · refine r_iconst (pc := 59) (0) C dX0_digest_59 (by decide) ?_
            refine r_istore_n (pc := 60) C dX0_digest_60 (by decide) ?_
            refine V_for (P := fun i z => ∀ j b, V E 2 0 0 (wX G a (x_hd S j b z)) 61 [some (.ref (a 0)), some (.int (nI i))] []) (x_d3 S) (nf (x_d2 S) (S.1 0).toNatClampNeg (nf (x_d1 S) (x_k S) 877)) (S.1 7).toNatClampNeg (fun i hi K61 j b => ?_) (fun j b => ?_) j b
            · rw [nf_s, x_d3_e] at K61
              have hu : i < S.2.2.2.1 := Nat.lt_of_lt_of_le hi hI.mnp
              have hu3 : i < 3 := Nat.lt_of_lt_of_le hu hI.np
              refine r_iload_n (pc := 61) C dX0_digest_61 rfl ?_
              refine r_aload_n (pc := 62) C dX0_digest_62 rfl ?_
              refine X_g7 (pc := 63) C dX0_digest_63 ?_
              refine r_icmp_ge (pc := 66) 85 C dX0_digest_66 (by decide) (fun c66 => ?_) (fun c66 => ?_)
              · exact absurd c66 (lp_in hI.many (by decide) hi)
              · refine r_aload_n (pc := 69) C dX0_digest_69 rfl ?_
                refine r_aload_n (pc := 70) C dX0_digest_70 rfl ?_
                refine X_g6 (pc := 71) C dX0_digest_71 ?_
                refine r_iload_n (pc := 74) C dX0_digest_74 rfl ?_
                refine X_l6 (pc := 75) C dX0_digest_75 rfl hu hu3 ?_
                refine X_cQv (pc := 76) C (cX_notePrince B a S j b _ i hI hu) q690 mX0_notePrince rfl dX0_digest_76 (by decide) (Nat.le_of_ble_eq_true rfl) ?_
                refine r_iinc (pc := 79) _ C dX0_digest_79 rfl (nI_1 i) (by decide) ?_
                refine r_goto (pc := 82) 61 C dX0_digest_82 (by decide) ?_
                exact K61 j b
            · refine r_iload_n (pc := 61) C dX0_digest_61 rfl ?_
              refine r_aload_n (pc := 62) C dX0_digest_62 rfl ?_
              refine X_g7 (pc := 63) C dX0_digest_63 ?_
              refine r_icmp_ge (pc := 66) 85 C dX0_digest_66 (by decide) (fun c66 => ?_) (fun c66 => ?_)
              · refine r_iconst (pc := 85) (0) C dX0_digest_85 (by decide) ?_
                refine r_istore_n (pc := 86) C dX0_digest_86 (by decide) ?_
                refine V_for (P := fun i z => ∀ j b, V E 2 0 0 (wX G a (x_hd S j b z)) 87 [some (.ref (a 0)), some (.int (nI i))] []) (x_d4 S) (nf (x_d3 S) (S.1 7).toNatClampNeg (nf (x_d2 S) (S.1 0).toNatClampNeg (nf (x_d1 S) (x_k S) 877))) (S.1 10).toNatClampNeg (fun i hi K87 j b => ?_) (fun j b => ?_) j b
                · rw [nf_s, x_d4_e] at K87
                  have hi18 : i < 18 := Nat.lt_of_lt_of_le hi hI.page.2
                  refine r_iload_n (pc := 87) C dX0_digest_87 rfl ?_
                  refine r_aload_n (pc := 88) C dX0_digest_88 rfl ?_
                  refine X_g10 (pc := 89) C dX0_digest_89 ?_
                  refine r_icmp_ge (pc := 92) 112 C dX0_digest_92 (by decide) (fun c92 => ?_) (fun c92 => ?_)
                  · exact absurd c92 (lp_in hI.page (by decide) hi)
                  · refine r_aload_n (pc := 95) C dX0_digest_95 rfl ?_
                    refine r_aload_n (pc := 96) C dX0_digest_96 rfl ?_
                    refine X_g9 (pc := 97) C dX0_digest_97 ?_
                    refine r_iload_n (pc := 100) C dX0_digest_100 rfl ?_
                    refine X_l9 (pc := 101) C dX0_digest_101 (vp_in_nI hi18 (by decide)) ?_
                    rw [nI_clamp (by omega)]
                    refine r_i2l (pc := 102) C dX0_digest_102 ?_
                    refine X_cQv (pc := 103) C (cX_note B a _ _) q681 mX0_note rfl dX0_digest_103 (by decide) (Nat.le_of_ble_eq_true rfl) ?_
                    rw [x_note_hd]
                    refine r_iinc (pc := 106) _ C dX0_digest_106 rfl (nI_1 i) (by decide) ?_
                    refine r_goto (pc := 109) 87 C dX0_digest_109 (by decide) ?_
                    exact K87 j b
                · refine r_iload_n (pc := 87) C dX0_digest_87 rfl ?_
                  refine r_aload_n (pc := 88) C dX0_digest_88 rfl ?_
                  refine X_g10 (pc := 89) C dX0_digest_89 ?_
                  refine r_icmp_ge (pc := 92) 112 C dX0_digest_92 (by decide) (fun c92 => ?_) (fun c92 => ?_)
                  · refine r_iconst (pc := 112) (0) C dX0_digest_112 (by decide) ?_
                    refine r_istore_n (pc := 113) C dX0_digest_113 (by decide) ?_
                    refine V_for (P := fun i z => ∀ j b, V E 2 0 0 (wX G a (x_hd S j b z)) 114 [some (.ref (a 0)), some (.int (nI i))] []) (x_d5 S) (nf (x_d4 S) (S.1 10).toNatClampNeg (nf (x_d3 S) (S.1 7).toNatClampNeg (nf (x_d2 S) (S.1 0).toNatClampNeg (nf (x_d1 S) (x_k S) 877)))) 9 (fun i hi K114 j b => ?_) (fun j b => ?_) j b
                    · rw [nf_s, x_d5_e] at K114
                      refine r_iload_n (pc := 114) C dX0_digest_114 rfl ?_
                      refine r_bipush (pc := 115) (9) C dX0_digest_115 (by decide) ?_
                      refine r_icmp_ge (pc := 117) 136 C dX0_digest_117 (by decide) (fun c117 => ?_) (fun c117 => ?_)
                      · exact absurd c117 (lp_in R99 (by decide) hi)
                      · refine r_aload_n (pc := 120) C dX0_digest_120 rfl ?_
                        refine r_aload_n (pc := 121) C dX0_digest_121 rfl ?_
                        refine r_iload_n (pc := 122) C dX0_digest_122 rfl ?_
                        refine X_cQi (pc := 123) C (cX_count B a _ _ (by exact hI)) q694 mX0_count rfl dX0_digest_123 (by decide) (Nat.le_of_ble_eq_true rfl) ?_
                        rw [x_count_hd]
                        refine r_i2l (pc := 126) C dX0_digest_126 ?_
                        refine X_cQv (pc := 127) C (cX_note B a _ _) q681 mX0_note rfl dX0_digest_127 (by decide) (Nat.le_of_ble_eq_true rfl) ?_
                        rw [x_note_hd]
                        refine r_iinc (pc := 130) _ C dX0_digest_130 rfl (nI_1 i) (by decide) ?_
                        refine r_goto (pc := 133) 114 C dX0_digest_133 (by decide) ?_
                        exact K114 j b
                    · refine r_iload_n (pc := 114) C dX0_digest_114 rfl ?_
                      refine r_bipush (pc := 115) (9) C dX0_digest_115 (by decide) ?_
                      refine r_icmp_ge (pc := 117) 136 C dX0_digest_117 (by decide) (fun c117 => ?_) (fun c117 => ?_)
                      · refine r_aload_n (pc := 136) C dX0_digest_136 rfl ?_
                        refine X_g34 (pc := 137) C dX0_digest_137 ?_
                        rw [x_hd_h, show nf (x_d5 S) 9 (nf (x_d4 S) (S.1 10).toNatClampNeg (nf (x_d3 S) (S.1 7).toNatClampNeg (nf (x_d2 S) (S.1 0).toNatClampNeg (nf (x_d1 S) (x_k S) 877)))) = x_digest S from rfl]
                        exact r_lret (pc := 140) C hR dX0_digest_140 (by decide) (by decide) ⟨rfl, j, b, rfl⟩
                      · exact absurd (lp_out R99 (by decide)) c117
                  · exact absurd (lp_out hI.page (by decide)) c92
              · exact absurd (lp_out hI.many (by decide)) c66
          · exact absurd (lp_out hI.les (by decide)) c45
      · exact absurd (x_k_out c18) c11

set_option maxHeartbeats 4000000 in
theorem cM_mixLesson {G : Gx} (B : Base G) (a : Nat → Nat) (T : StM) (h : Int64) (l : Int32) (hI : IM T) (hl : vp_in l 5) : Cv G yX1_mixLesson cX1_mixLesson 3 (rmD 5) (wM G a) (m_hd T h) [.ref (a 0), .int l] (fun S' => S' = m_hd T (m_nl T l h)) := by
  refine Cv.of B [some (.ref (a 0)), some (.int l), none] (by decide) rfl (Nat.le_of_ble_eq_true rfl) (fun E C hR => ?_)
  have C : CxOk E RX1 cX1_mixLesson 3 G (rmD 5) := C
  refine r_iconst (pc := 0) (0) C dX1_mixLesson_0 (by decide) ?_
  refine r_istore_n (pc := 1) C dX1_mixLesson_1 (by decide) ?_
  refine V_for (P := fun i z => V E 3 0 0 (wM G a (m_hd T z)) 2 [some (.ref (a 0)), some (.int l), some (.int (nI i))] []) (m_nl1 T l) h 3 (fun i hi K2 => ?_) ?_
  · refine r_iload_n (pc := 2) C dX1_mixLesson_2 rfl ?_
    refine r_iconst (pc := 3) (3) C dX1_mixLesson_3 (by decide) ?_
    refine r_icmp_ge (pc := 4) 24 C dX1_mixLesson_4 (by decide) (fun c4 => ?_) (fun c4 => ?_)
    · exact absurd c4 (lp_in R33 (by decide) hi)
    · refine r_aload_n (pc := 7) C dX1_mixLesson_7 rfl ?_
      refine r_aload_n (pc := 8) C dX1_mixLesson_8 rfl ?_
      refine r_iload_n (pc := 9) C dX1_mixLesson_9 rfl ?_
      refine r_iload_n (pc := 10) C dX1_mixLesson_10 rfl ?_
      refine M_cQi (pc := 11) C (cM_lessonNow B a (m_hd T _) _ _ hI hl) q865 mX1_lessonNow rfl dX1_mixLesson_11 (by decide) (Nat.le_of_ble_eq_true rfl) ?_
      refine r_i2l (pc := 14) C dX1_mixLesson_14 ?_
      refine M_cQv (pc := 15) C (cM_mix B a _ _) q1088 mX1_mix rfl dX1_mixLesson_15 (by decide) (Nat.le_of_ble_eq_true rfl) ?_
      rw [m_mix_hd]
      refine r_iinc (pc := 18) _ C dX1_mixLesson_18 rfl (nI_1 i) (by decide) ?_
      refine r_goto (pc := 21) 2 C dX1_mixLesson_21 (by decide) ?_
      exact K2
  · refine r_iload_n (pc := 2) C dX1_mixLesson_2 rfl ?_
    refine r_iconst (pc := 3) (3) C dX1_mixLesson_3 (by decide) ?_
    refine r_icmp_ge (pc := 4) 24 C dX1_mixLesson_4 (by decide) (fun c4 => ?_) (fun c4 => ?_)
    · refine r_aload_n (pc := 24) C dX1_mixLesson_24 rfl ?_
      refine r_aload_n (pc := 25) C dX1_mixLesson_25 rfl ?_
      refine r_iload_n (pc := 26) C dX1_mixLesson_26 rfl ?_
      refine r_iconst (pc := 27) (0) C dX1_mixLesson_27 (by decide) ?_
      refine M_cQi (pc := 28) C (cM_matchNow B a (m_hd T _) _ _ hI hl (by decide)) q983 mX1_matchNow rfl dX1_mixLesson_28 (by decide) (Nat.le_of_ble_eq_true rfl) ?_
      refine r_i2l (pc := 31) C dX1_mixLesson_31 ?_
      refine M_cQv (pc := 32) C (cM_mix B a _ _) q1088 mX1_mix rfl dX1_mixLesson_32 (by decide) (Nat.le_of_ble_eq_true rfl) ?_
      rw [m_mix_hd]
      refine r_aload_n (pc := 35) C dX1_mixLesson_35 rfl ?_
      refine r_aload_n (pc := 36) C dX1_mixLesson_36 rfl ?_
      refine r_iload_n (pc := 37) C dX1_mixLesson_37 rfl ?_
      refine r_iconst (pc := 38) (1) C dX1_mixLesson_38 (by decide) ?_
      refine M_cQi (pc := 39) C (cM_matchNow B a (m_hd T _) _ _ hI hl (by decide)) q983 mX1_matchNow rfl dX1_mixLesson_39 (by decide) (Nat.le_of_ble_eq_true rfl) ?_
      refine r_i2l (pc := 42) C dX1_mixLesson_42 ?_
      refine M_cQv (pc := 43) C (cM_mix B a _ _) q1088 mX1_mix rfl dX1_mixLesson_43 (by decide) (Nat.le_of_ble_eq_true rfl) ?_
      rw [m_mix_hd]
      refine r_bipush (pc := 46) (10) C dX1_mixLesson_46 (by decide) ?_
      refine r_istore_n (pc := 48) C dX1_mixLesson_48 (by decide) ?_
      refine V_for (P := fun i z => V E 3 0 0 (wM G a (m_hd T z)) 49 [some (.ref (a 0)), some (.int l), some (.int (nI (10 + i)))] []) (m_nl2 T l) (hx (hx (nf (m_nl1 T l) 3 h) (m_matchNow T l 0)) (m_matchNow T l 1)) 3 (fun i hi K49 => ?_) ?_
      · have hw := hm_ok i hi
        refine r_iload_n (pc := 49) C dX1_mixLesson_49 rfl ?_
        refine r_bipush (pc := 50) (13) C dX1_mixLesson_50 (by decide) ?_
        refine r_icmp_ge (pc := 52) 72 C dX1_mixLesson_52 (by decide) (fun c52 => ?_) (fun c52 => ?_)
        · exact absurd c52 (nI_ge (b := 13) (by omega) (by decide))
        · refine r_aload_n (pc := 55) C dX1_mixLesson_55 rfl ?_
          refine r_aload_n (pc := 56) C dX1_mixLesson_56 rfl ?_
          refine r_iload_n (pc := 57) C dX1_mixLesson_57 rfl ?_
          refine r_iload_n (pc := 58) C dX1_mixLesson_58 rfl ?_
          refine M_cQi (pc := 59) C (cM_matchNow B a (m_hd T _) _ _ hI hl hw) q983 mX1_matchNow rfl dX1_mixLesson_59 (by decide) (Nat.le_of_ble_eq_true rfl) ?_
          refine r_i2l (pc := 62) C dX1_mixLesson_62 ?_
          refine M_cQv (pc := 63) C (cM_mix B a _ _) q1088 mX1_mix rfl dX1_mixLesson_63 (by decide) (Nat.le_of_ble_eq_true rfl) ?_
          rw [m_mix_hd]
          refine r_iinc (pc := 66) _ C dX1_mixLesson_66 rfl (nI_1 (10 + i)) (by decide) ?_
          refine r_goto (pc := 69) 49 C dX1_mixLesson_69 (by decide) ?_
          exact K49
      · refine r_iload_n (pc := 49) C dX1_mixLesson_49 rfl ?_
        refine r_bipush (pc := 50) (13) C dX1_mixLesson_50 (by decide) ?_
        refine r_icmp_ge (pc := 52) 72 C dX1_mixLesson_52 (by decide) (fun c52 => ?_) (fun c52 => ?_)
        · exact r_vret (pc := 72) C hR dX1_mixLesson_72 (by decide) (by decide) rfl
        · exact absurd (nI_le (a := 13) (b := 10 + 3) (by decide) (by decide)) c52
    · exact absurd (lp_out R33 (by decide)) c4

set_option maxHeartbeats 4000000 in
theorem cM_mixPrince {G : Gx} (B : Base G) (a : Nat → Nat) (T : StM) (h : Int64) (p : Int32) (hI : IM T) (hp : vp_in p 3) : Cv G yX1_mixPrince cX1_mixPrince 3 (rmD 5) (wM G a) (m_hd T h) [.ref (a 0), .int p] (fun S' => S' = m_hd T (m_np T p h)) := by
  refine Cv.of B [some (.ref (a 0)), some (.int p), none] (by decide) rfl (Nat.le_of_ble_eq_true rfl) (fun E C hR => ?_)
  have C : CxOk E RX1 cX1_mixPrince 3 G (rmD 5) := C
  refine r_iconst (pc := 0) (0) C dX1_mixPrince_0 (by decide) ?_
  refine r_istore_n (pc := 1) C dX1_mixPrince_1 (by decide) ?_
  refine V_for (P := fun i z => V E 3 0 0 (wM G a (m_hd T z)) 2 [some (.ref (a 0)), some (.int p), some (.int (nI i))] []) (m_np1 T p) h 13 (fun i hi K2 => ?_) ?_
  · refine r_iload_n (pc := 2) C dX1_mixPrince_2 rfl ?_
    refine r_bipush (pc := 3) (13) C dX1_mixPrince_3 (by decide) ?_
    refine r_icmp_ge (pc := 5) 36 C dX1_mixPrince_5 (by decide) (fun c5 => ?_) (fun c5 => ?_)
    · exact absurd c5 (lp_in R13 (by decide) hi)
    · refine r_iload_n (pc := 8) C dX1_mixPrince_8 rfl ?_
      refine r_iconst (pc := 9) (5) C dX1_mixPrince_9 (by decide) ?_
      refine r_icmp_lt (pc := 10) 19 C dX1_mixPrince_10 (by decide) (fun c10 => ?_) (fun c10 => ?_)
      · have hw := hp_ok i hi (Or.inl c10)
        refine r_aload_n (pc := 19) C dX1_mixPrince_19 rfl ?_
        refine r_aload_n (pc := 20) C dX1_mixPrince_20 rfl ?_
        refine r_iload_n (pc := 21) C dX1_mixPrince_21 rfl ?_
        refine r_iload_n (pc := 22) C dX1_mixPrince_22 rfl ?_
        refine M_cQi (pc := 23) C (cM_princeNow B a (m_hd T _) _ _ hI hp hw) q896 mX1_princeNow rfl dX1_mixPrince_23 (by decide) (Nat.le_of_ble_eq_true rfl) ?_
        refine r_i2l (pc := 26) C dX1_mixPrince_26 ?_
        refine M_cQv (pc := 27) C (cM_mix B a _ _) q1088 mX1_mix rfl dX1_mixPrince_27 (by decide) (Nat.le_of_ble_eq_true rfl) ?_
        rw [m_mix_hd]
        refine r_iinc (pc := 30) _ C dX1_mixPrince_30 rfl (nI_1 i) (by decide) ?_
        refine r_goto (pc := 33) 2 C dX1_mixPrince_33 (by decide) ?_
        rw [show nf (m_np1 T p) (i + 1) h = m_np1 T p i (nf (m_np1 T p) i h) from rfl, m_np1, if_pos c10] at K2
        exact K2
      · refine r_iload_n (pc := 13) C dX1_mixPrince_13 rfl ?_
        refine r_bipush (pc := 14) (9) C dX1_mixPrince_14 (by decide) ?_
        refine r_icmp_le (pc := 16) 30 C dX1_mixPrince_16 (by decide) (fun c16 => ?_) (fun c16 => ?_)
        · skip
          refine r_iinc (pc := 30) _ C dX1_mixPrince_30 rfl (nI_1 i) (by decide) ?_
          refine r_goto (pc := 33) 2 C dX1_mixPrince_33 (by decide) ?_
          rw [show nf (m_np1 T p) (i + 1) h = m_np1 T p i (nf (m_np1 T p) i h) from rfl, m_np1, if_neg c10, if_pos c16] at K2
          exact K2
        · have hw := hp_ok i hi (Or.inr c16)
          refine r_aload_n (pc := 19) C dX1_mixPrince_19 rfl ?_
          refine r_aload_n (pc := 20) C dX1_mixPrince_20 rfl ?_
          refine r_iload_n (pc := 21) C dX1_mixPrince_21 rfl ?_
          refine r_iload_n (pc := 22) C dX1_mixPrince_22 rfl ?_
          refine M_cQi (pc := 23) C (cM_princeNow B a (m_hd T _) _ _ hI hp hw) q896 mX1_princeNow rfl dX1_mixPrince_23 (by decide) (Nat.le_of_ble_eq_true rfl) ?_
          refine r_i2l (pc := 26) C dX1_mixPrince_26 ?_
          refine M_cQv (pc := 27) C (cM_mix B a _ _) q1088 mX1_mix rfl dX1_mixPrince_27 (by decide) (Nat.le_of_ble_eq_true rfl) ?_
          rw [m_mix_hd]
          refine r_iinc (pc := 30) _ C dX1_mixPrince_30 rfl (nI_1 i) (by decide) ?_
          refine r_goto (pc := 33) 2 C dX1_mixPrince_33 (by decide) ?_
          rw [show nf (m_np1 T p) (i + 1) h = m_np1 T p i (nf (m_np1 T p) i h) from rfl, m_np1, if_neg c10, if_neg c16] at K2
          exact K2
  · refine r_iload_n (pc := 2) C dX1_mixPrince_2 rfl ?_
    refine r_bipush (pc := 3) (13) C dX1_mixPrince_3 (by decide) ?_
    refine r_icmp_ge (pc := 5) 36 C dX1_mixPrince_5 (by decide) (fun c5 => ?_) (fun c5 => ?_)
    · refine r_iconst (pc := 36) (0) C dX1_mixPrince_36 (by decide) ?_
      refine r_istore_n (pc := 37) C dX1_mixPrince_37 (by decide) ?_
      refine V_for (P := fun i z => V E 3 0 0 (wM G a (m_hd T z)) 38 [some (.ref (a 0)), some (.int p), some (.int (nI i))] []) (m_np2 T p) (nf (m_np1 T p) 13 h) (T.1 1).toNatClampNeg (fun i hi K38 => ?_) ?_
      · have hl5 : vp_in (nI i) 5 := vp_in_nI (Nat.lt_of_lt_of_le hi hI.les.2) (by decide)
        refine r_iload_n (pc := 38) C dX1_mixPrince_38 rfl ?_
        refine r_aload_n (pc := 39) C dX1_mixPrince_39 rfl ?_
        refine M_g1 (pc := 40) C dX1_mixPrince_40 ?_
        refine r_icmp_ge (pc := 43) 63 C dX1_mixPrince_43 (by decide) (fun c43 => ?_) (fun c43 => ?_)
        · exact absurd c43 (lp_in hI.les (by decide) hi)
        · refine r_aload_n (pc := 46) C dX1_mixPrince_46 rfl ?_
          refine r_aload_n (pc := 47) C dX1_mixPrince_47 rfl ?_
          refine r_iload_n (pc := 48) C dX1_mixPrince_48 rfl ?_
          refine r_iload_n (pc := 49) C dX1_mixPrince_49 rfl ?_
          refine M_cQi (pc := 50) C (cM_tenthsNow B a (m_hd T _) _ _ hI hp hl5) q923 mX1_tenthsNow rfl dX1_mixPrince_50 (by decide) (Nat.le_of_ble_eq_true rfl) ?_
          refine r_i2l (pc := 53) C dX1_mixPrince_53 ?_
          refine M_cQv (pc := 54) C (cM_mix B a _ _) q1088 mX1_mix rfl dX1_mixPrince_54 (by decide) (Nat.le_of_ble_eq_true rfl) ?_
          rw [m_mix_hd]
          refine r_iinc (pc := 57) _ C dX1_mixPrince_57 rfl (nI_1 i) (by decide) ?_
          refine r_goto (pc := 60) 38 C dX1_mixPrince_60 (by decide) ?_
          exact K38
      · refine r_iload_n (pc := 38) C dX1_mixPrince_38 rfl ?_
        refine r_aload_n (pc := 39) C dX1_mixPrince_39 rfl ?_
        refine M_g1 (pc := 40) C dX1_mixPrince_40 ?_
        refine r_icmp_ge (pc := 43) 63 C dX1_mixPrince_43 (by decide) (fun c43 => ?_) (fun c43 => ?_)
        · refine r_aload_n (pc := 63) C dX1_mixPrince_63 rfl ?_
          refine r_aload_n (pc := 64) C dX1_mixPrince_64 rfl ?_
          refine r_iload_n (pc := 65) C dX1_mixPrince_65 rfl ?_
          refine M_cQi (pc := 66) C (cM_fondnessNow B a (m_hd T _) _ hI hp) q1020 mX1_fondnessNow rfl dX1_mixPrince_66 (by decide) (Nat.le_of_ble_eq_true rfl) ?_
          refine r_i2l (pc := 69) C dX1_mixPrince_69 ?_
          refine M_cQv (pc := 70) C (cM_mix B a _ _) q1088 mX1_mix rfl dX1_mixPrince_70 (by decide) (Nat.le_of_ble_eq_true rfl) ?_
          rw [m_mix_hd]
          exact r_vret (pc := 73) C hR dX1_mixPrince_73 (by decide) (by decide) rfl
        · exact absurd (lp_out hI.les (by decide)) c43
    · exact absurd (lp_out R13 (by decide)) c5

set_option maxHeartbeats 4000000 in
theorem cM_digest {G : Gx} (B : Base G) (a : Nat → Nat) (T : StM) (hI : IM T) : Cl G yX1_digest cX1_digest 2 (rmD 6) (wM G a) T [.ref (a 0)] (fun r S' => r = m_digest T ∧ S' = m_hd T (m_digest T)) := by
  refine Cl.of B [some (.ref (a 0)), none] (by decide) rfl (Nat.le_of_ble_eq_true rfl) (fun E C hR => ?_)
  have C : CxOk E RX1 cX1_digest 2 G (rmD 6) := C
  refine r_aload_n (pc := 0) C dX1_digest_0 rfl ?_
  refine r_ldc2 (pc := 1) C dX1_digest_1 q1087 ?_
  refine M_p39 (pc := 4) C dX1_digest_4 ?_
  refine r_iconst (pc := 7) (0) C dX1_digest_7 (by decide) ?_
  refine r_istore_n (pc := 8) C dX1_digest_8 (by decide) ?_
  refine V_for (P := fun i z => V E 2 0 0 (wM G a (m_hd T z)) 9 [some (.ref (a 0)), some (.int (nI i))] []) (m_d1 T) 877 (m_k T) (fun i hi K9 => ?_) ?_
  · obtain ⟨hi3, hth⟩ := m_k_lt hi
    rw [nf_s, m_d1_e] at K9
    refine r_iload_n (pc := 9) C dX1_digest_9 rfl ?_
    refine r_iconst (pc := 10) (3) C dX1_digest_10 (by decide) ?_
    refine r_icmp_ge (pc := 11) 38 C dX1_digest_11 (by decide) (fun c11 => ?_) (fun c11 => ?_)
    · exact absurd c11 (nI_ge (b := 3) hi3 (by decide))
    · refine r_aload_n (pc := 14) C dX1_digest_14 rfl ?_
      refine M_g1 (pc := 15) C dX1_digest_15 ?_
      refine r_if_le (pc := 18) 38 C dX1_digest_18 (by decide) (fun c18 => ?_) (fun c18 => ?_)
      · exact absurd c18 hth
      · refine r_aload_n (pc := 21) C dX1_digest_21 rfl ?_
        refine r_aload_n (pc := 22) C dX1_digest_22 rfl ?_
        refine M_g5 (pc := 23) C dX1_digest_23 ?_
        refine r_iload_n (pc := 26) C dX1_digest_26 rfl ?_
        refine M_l5 (pc := 27) C dX1_digest_27 (vp_in_nI hi3 (by decide)) ?_
        rw [nI_clamp (by omega)]
        refine r_i2l (pc := 28) C dX1_digest_28 ?_
        refine M_cQv (pc := 29) C (cM_mix B a _ _) q1088 mX1_mix rfl dX1_digest_29 (by decide) (Nat.le_of_ble_eq_true rfl) ?_
        rw [m_mix_hd]
        refine r_iinc (pc := 32) _ C dX1_digest_32 rfl (nI_1 i) (by decide) ?_
        refine r_goto (pc := 35) 9 C dX1_digest_35 (by decide) ?_
        exact K9
  · refine r_iload_n (pc := 9) C dX1_digest_9 rfl ?_
    refine r_iconst (pc := 10) (3) C dX1_digest_10 (by decide) ?_
    refine r_icmp_ge (pc := 11) 38 C dX1_digest_11 (by decide) (fun c11 => ?_) (fun c11 => ?_)
    · refine r_iconst (pc := 38) (0) C dX1_digest_38 (by decide) ?_
      refine r_istore_n (pc := 39) C dX1_digest_39 (by decide) ?_
      refine V_for (P := fun i z => V E 2 0 0 (wM G a (m_hd T z)) 40 [some (.ref (a 0)), some (.int (nI i))] []) (m_d2 T) (nf (m_d1 T) (m_k T) 877) (T.1 1).toNatClampNeg (fun i hi K40 => ?_) ?_
      · rw [nf_s, m_d2_e] at K40
        have hl5 : vp_in (nI i) 5 := vp_in_nI (Nat.lt_of_lt_of_le hi hI.les.2) (by decide)
        refine r_iload_n (pc := 40) C dX1_digest_40 rfl ?_
        refine r_aload_n (pc := 41) C dX1_digest_41 rfl ?_
        refine M_g1 (pc := 42) C dX1_digest_42 ?_
        refine r_icmp_ge (pc := 45) 59 C dX1_digest_45 (by decide) (fun c45 => ?_) (fun c45 => ?_)
        · exact absurd c45 (lp_in hI.les (by decide) hi)
        · refine r_aload_n (pc := 48) C dX1_digest_48 rfl ?_
          refine r_iload_n (pc := 49) C dX1_digest_49 rfl ?_
          refine M_cQv (pc := 50) C (cM_mixLesson B a T _ _ hI hl5) q1093 mX1_mixLesson rfl dX1_digest_50 (by decide) (Nat.le_of_ble_eq_true rfl) ?_
          refine r_iinc (pc := 53) _ C dX1_digest_53 rfl (nI_1 i) (by decide) ?_
          refine r_goto (pc := 56) 40 C dX1_digest_56 (by decide) ?_
          exact K40
      · refine r_iload_n (pc := 40) C dX1_digest_40 rfl ?_
        refine r_aload_n (pc := 41) C dX1_digest_41 rfl ?_
        refine M_g1 (pc := 42) C dX1_digest_42 ?_
        refine r_icmp_ge (pc := 45) 59 C dX1_digest_45 (by decide) (fun c45 => ?_) (fun c45 => ?_)
        · refine r_iconst (pc := 59) (0) C dX1_digest_59 (by decide) ?_
          refine r_istore_n (pc := 60) C dX1_digest_60 (by decide) ?_
          refine V_for (P := fun i z => V E 2 0 0 (wM G a (m_hd T z)) 61 [some (.ref (a 0)), some (.int (nI i))] []) (m_d3 T) (nf (m_d2 T) (T.1 1).toNatClampNeg (nf (m_d1 T) (m_k T) 877)) (T.1 6).toNatClampNeg (fun i hi K61 => ?_) ?_
          · rw [nf_s, m_d3_e] at K61
            have hp3 : vp_in (nI i) 3 := vp_in_nI (Nat.lt_of_lt_of_le hi hI.many.2) (by decide)
            refine r_iload_n (pc := 61) C dX1_digest_61 rfl ?_
            refine r_aload_n (pc := 62) C dX1_digest_62 rfl ?_
            refine M_g6 (pc := 63) C dX1_digest_63 ?_
            refine r_icmp_ge (pc := 66) 80 C dX1_digest_66 (by decide) (fun c66 => ?_) (fun c66 => ?_)
            · exact absurd c66 (lp_in hI.many (by decide) hi)
            · refine r_aload_n (pc := 69) C dX1_digest_69 rfl ?_
              refine r_iload_n (pc := 70) C dX1_digest_70 rfl ?_
              refine M_cQv (pc := 71) C (cM_mixPrince B a T _ _ hI hp3) q1097 mX1_mixPrince rfl dX1_digest_71 (by decide) (Nat.le_of_ble_eq_true rfl) ?_
              refine r_iinc (pc := 74) _ C dX1_digest_74 rfl (nI_1 i) (by decide) ?_
              refine r_goto (pc := 77) 61 C dX1_digest_77 (by decide) ?_
              exact K61
          · refine r_iload_n (pc := 61) C dX1_digest_61 rfl ?_
            refine r_aload_n (pc := 62) C dX1_digest_62 rfl ?_
            refine M_g6 (pc := 63) C dX1_digest_63 ?_
            refine r_icmp_ge (pc := 66) 80 C dX1_digest_66 (by decide) (fun c66 => ?_) (fun c66 => ?_)
            · refine r_iconst (pc := 80) (0) C dX1_digest_80 (by decide) ?_
              refine r_istore_n (pc := 81) C dX1_digest_81 (by decide) ?_
              refine V_for (P := fun i z => V E 2 0 0 (wM G a (m_hd T z)) 82 [some (.ref (a 0)), some (.int (nI i))] []) (m_d4 T) (nf (m_d3 T) (T.1 6).toNatClampNeg (nf (m_d2 T) (T.1 1).toNatClampNeg (nf (m_d1 T) (m_k T) 877))) (T.1 17).toNatClampNeg (fun i hi K82 => ?_) ?_
              · rw [nf_s, m_d4_e] at K82
                have hi18 : i < 18 := Nat.lt_of_lt_of_le hi hI.page.2
                refine r_iload_n (pc := 82) C dX1_digest_82 rfl ?_
                refine r_aload_n (pc := 83) C dX1_digest_83 rfl ?_
                refine M_g17 (pc := 84) C dX1_digest_84 ?_
                refine r_icmp_ge (pc := 87) 107 C dX1_digest_87 (by decide) (fun c87 => ?_) (fun c87 => ?_)
                · exact absurd c87 (lp_in hI.page (by decide) hi)
                · refine r_aload_n (pc := 90) C dX1_digest_90 rfl ?_
                  refine r_aload_n (pc := 91) C dX1_digest_91 rfl ?_
                  refine M_g18 (pc := 92) C dX1_digest_92 ?_
                  refine r_iload_n (pc := 95) C dX1_digest_95 rfl ?_
                  refine M_l18 (pc := 96) C dX1_digest_96 (vp_in_nI hi18 (by decide)) ?_
                  rw [nI_clamp (by omega)]
                  refine r_i2l (pc := 97) C dX1_digest_97 ?_
                  refine M_cQv (pc := 98) C (cM_mix B a _ _) q1088 mX1_mix rfl dX1_digest_98 (by decide) (Nat.le_of_ble_eq_true rfl) ?_
                  rw [m_mix_hd]
                  refine r_iinc (pc := 101) _ C dX1_digest_101 rfl (nI_1 i) (by decide) ?_
                  refine r_goto (pc := 104) 82 C dX1_digest_104 (by decide) ?_
                  exact K82
              · refine r_iload_n (pc := 82) C dX1_digest_82 rfl ?_
                refine r_aload_n (pc := 83) C dX1_digest_83 rfl ?_
                refine M_g17 (pc := 84) C dX1_digest_84 ?_
                refine r_icmp_ge (pc := 87) 107 C dX1_digest_87 (by decide) (fun c87 => ?_) (fun c87 => ?_)
                · refine r_iconst (pc := 107) (0) C dX1_digest_107 (by decide) ?_
                  refine r_istore_n (pc := 108) C dX1_digest_108 (by decide) ?_
                  refine V_for (P := fun i z => V E 2 0 0 (wM G a (m_hd T z)) 109 [some (.ref (a 0)), some (.int (nI i))] []) (m_d5 T) (nf (m_d4 T) (T.1 17).toNatClampNeg (nf (m_d3 T) (T.1 6).toNatClampNeg (nf (m_d2 T) (T.1 1).toNatClampNeg (nf (m_d1 T) (m_k T) 877)))) 9 (fun i hi K109 => ?_) ?_
                  · rw [nf_s, m_d5_e] at K109
                    refine r_iload_n (pc := 109) C dX1_digest_109 rfl ?_
                    refine r_bipush (pc := 110) (9) C dX1_digest_110 (by decide) ?_
                    refine r_icmp_ge (pc := 112) 131 C dX1_digest_112 (by decide) (fun c112 => ?_) (fun c112 => ?_)
                    · exact absurd c112 (lp_in R99 (by decide) hi)
                    · refine r_aload_n (pc := 115) C dX1_digest_115 rfl ?_
                      refine r_aload_n (pc := 116) C dX1_digest_116 rfl ?_
                      refine r_iload_n (pc := 117) C dX1_digest_117 rfl ?_
                      refine M_cQi (pc := 118) C (cM_howMany B a (m_hd T _) _ hI) q1079 mX1_howMany rfl dX1_digest_118 (by decide) (Nat.le_of_ble_eq_true rfl) ?_
                      rw [m_count_hd]
                      refine r_i2l (pc := 121) C dX1_digest_121 ?_
                      refine M_cQv (pc := 122) C (cM_mix B a _ _) q1088 mX1_mix rfl dX1_digest_122 (by decide) (Nat.le_of_ble_eq_true rfl) ?_
                      rw [m_mix_hd]
                      refine r_iinc (pc := 125) _ C dX1_digest_125 rfl (nI_1 i) (by decide) ?_
                      refine r_goto (pc := 128) 109 C dX1_digest_128 (by decide) ?_
                      exact K109
                  · refine r_iload_n (pc := 109) C dX1_digest_109 rfl ?_
                    refine r_bipush (pc := 110) (9) C dX1_digest_110 (by decide) ?_
                    refine r_icmp_ge (pc := 112) 131 C dX1_digest_112 (by decide) (fun c112 => ?_) (fun c112 => ?_)
                    · refine r_aload_n (pc := 131) C dX1_digest_131 rfl ?_
                      refine M_g39 (pc := 132) C dX1_digest_132 ?_
                      rw [m_hd_h, show nf (m_d5 T) 9 (nf (m_d4 T) (T.1 17).toNatClampNeg (nf (m_d3 T) (T.1 6).toNatClampNeg (nf (m_d2 T) (T.1 1).toNatClampNeg (nf (m_d1 T) (m_k T) 877)))) = m_digest T from rfl]
                      exact r_lret (pc := 135) C hR dX1_digest_135 (by decide) (by decide) ⟨rfl, rfl⟩
                    · exact absurd (lp_out R99 (by decide)) c112
                · exact absurd (lp_out hI.page (by decide)) c87
            · exact absurd (lp_out hI.many (by decide)) c66
        · exact absurd (lp_out hI.les (by decide)) c45
    · refine r_aload_n (pc := 14) C dX1_digest_14 rfl ?_
      refine M_g1 (pc := 15) C dX1_digest_15 ?_
      refine r_if_le (pc := 18) 38 C dX1_digest_18 (by decide) (fun c18 => ?_) (fun c18 => ?_)
      · refine r_iconst (pc := 38) (0) C dX1_digest_38 (by decide) ?_
        refine r_istore_n (pc := 39) C dX1_digest_39 (by decide) ?_
        refine V_for (P := fun i z => V E 2 0 0 (wM G a (m_hd T z)) 40 [some (.ref (a 0)), some (.int (nI i))] []) (m_d2 T) (nf (m_d1 T) (m_k T) 877) (T.1 1).toNatClampNeg (fun i hi K40 => ?_) ?_
        · rw [nf_s, m_d2_e] at K40
          have hl5 : vp_in (nI i) 5 := vp_in_nI (Nat.lt_of_lt_of_le hi hI.les.2) (by decide)
          refine r_iload_n (pc := 40) C dX1_digest_40 rfl ?_
          refine r_aload_n (pc := 41) C dX1_digest_41 rfl ?_
          refine M_g1 (pc := 42) C dX1_digest_42 ?_
          refine r_icmp_ge (pc := 45) 59 C dX1_digest_45 (by decide) (fun c45 => ?_) (fun c45 => ?_)
          · exact absurd c45 (lp_in hI.les (by decide) hi)
          · refine r_aload_n (pc := 48) C dX1_digest_48 rfl ?_
            refine r_iload_n (pc := 49) C dX1_digest_49 rfl ?_
            refine M_cQv (pc := 50) C (cM_mixLesson B a T _ _ hI hl5) q1093 mX1_mixLesson rfl dX1_digest_50 (by decide) (Nat.le_of_ble_eq_true rfl) ?_
            refine r_iinc (pc := 53) _ C dX1_digest_53 rfl (nI_1 i) (by decide) ?_
            refine r_goto (pc := 56) 40 C dX1_digest_56 (by decide) ?_
            exact K40
        · refine r_iload_n (pc := 40) C dX1_digest_40 rfl ?_
          refine r_aload_n (pc := 41) C dX1_digest_41 rfl ?_
          refine M_g1 (pc := 42) C dX1_digest_42 ?_
          refine r_icmp_ge (pc := 45) 59 C dX1_digest_45 (by decide) (fun c45 => ?_) (fun c45 => ?_)
          · refine r_iconst (pc := 59) (0) C dX1_digest_59 (by decide) ?_
            refine r_istore_n (pc := 60) C dX1_digest_60 (by decide) ?_
            refine V_for (P := fun i z => V E 2 0 0 (wM G a (m_hd T z)) 61 [some (.ref (a 0)), some (.int (nI i))] []) (m_d3 T) (nf (m_d2 T) (T.1 1).toNatClampNeg (nf (m_d1 T) (m_k T) 877)) (T.1 6).toNatClampNeg (fun i hi K61 => ?_) ?_
            · rw [nf_s, m_d3_e] at K61
              have hp3 : vp_in (nI i) 3 := vp_in_nI (Nat.lt_of_lt_of_le hi hI.many.2) (by decide)
              refine r_iload_n (pc := 61) C dX1_digest_61 rfl ?_
              refine r_aload_n (pc := 62) C dX1_digest_62 rfl ?_
              refine M_g6 (pc := 63) C dX1_digest_63 ?_
              refine r_icmp_ge (pc := 66) 80 C dX1_digest_66 (by decide) (fun c66 => ?_) (fun c66 => ?_)
              · exact absurd c66 (lp_in hI.many (by decide) hi)
              · refine r_aload_n (pc := 69) C dX1_digest_69 rfl ?_
                refine r_iload_n (pc := 70) C dX1_digest_70 rfl ?_
                refine M_cQv (pc := 71) C (cM_mixPrince B a T _ _ hI hp3) q1097 mX1_mixPrince rfl dX1_digest_71 (by decide) (Nat.le_of_ble_eq_true rfl) ?_
                refine r_iinc (pc := 74) _ C dX1_digest_74 rfl (nI_1 i) (by decide) ?_
                refine r_goto (pc := 77) 61 C dX1_digest_77 (by decide) ?_
                exact K61
            · refine r_iload_n (pc := 61) C dX1_digest_61 rfl ?_
              refine r_aload_n (pc := 62) C dX1_digest_62 rfl ?_
              refine M_g6 (pc := 63) C dX1_digest_63 ?_
              refine r_icmp_ge (pc := 66) 80 C dX1_digest_66 (by decide) (fun c66 => ?_) (fun c66 => ?_)
              · refine r_iconst (pc := 80) (0) C dX1_digest_80 (by decide) ?_
                refine r_istore_n (pc := 81) C dX1_digest_81 (by decide) ?_
                refine V_for (P := fun i z => V E 2 0 0 (wM G a (m_hd T z)) 82 [some (.ref (a 0)), some (.int (nI i))] []) (m_d4 T) (nf (m_d3 T) (T.1 6).toNatClampNeg (nf (m_d2 T) (T.1 1).toNatClampNeg (nf (m_d1 T) (m_k T) 877))) (T.1 17).toNatClampNeg (fun i hi K82 => ?_) ?_
                · rw [nf_s, m_d4_e] at K82
                  have hi18 : i < 18 := Nat.lt_of_lt_of_le hi hI.page.2
                  refine r_iload_n (pc := 82) C dX1_digest_82 rfl ?_
                  refine r_aload_n (pc := 83) C dX1_digest_83 rfl ?_
                  refine M_g17 (pc := 84) C dX1_digest_84 ?_
                  refine r_icmp_ge (pc := 87) 107 C dX1_digest_87 (by decide) (fun c87 => ?_) (fun c87 => ?_)
                  · exact absurd c87 (lp_in hI.page (by decide) hi)
                  · refine r_aload_n (pc := 90) C dX1_digest_90 rfl ?_
                    refine r_aload_n (pc := 91) C dX1_digest_91 rfl ?_
                    refine M_g18 (pc := 92) C dX1_digest_92 ?_
                    refine r_iload_n (pc := 95) C dX1_digest_95 rfl ?_
                    refine M_l18 (pc := 96) C dX1_digest_96 (vp_in_nI hi18 (by decide)) ?_
                    rw [nI_clamp (by omega)]
                    refine r_i2l (pc := 97) C dX1_digest_97 ?_
                    refine M_cQv (pc := 98) C (cM_mix B a _ _) q1088 mX1_mix rfl dX1_digest_98 (by decide) (Nat.le_of_ble_eq_true rfl) ?_
                    rw [m_mix_hd]
                    refine r_iinc (pc := 101) _ C dX1_digest_101 rfl (nI_1 i) (by decide) ?_
                    refine r_goto (pc := 104) 82 C dX1_digest_104 (by decide) ?_
                    exact K82
                · refine r_iload_n (pc := 82) C dX1_digest_82 rfl ?_
                  refine r_aload_n (pc := 83) C dX1_digest_83 rfl ?_
                  refine M_g17 (pc := 84) C dX1_digest_84 ?_
                  refine r_icmp_ge (pc := 87) 107 C dX1_digest_87 (by decide) (fun c87 => ?_) (fun c87 => ?_)
                  · refine r_iconst (pc := 107) (0) C dX1_digest_107 (by decide) ?_
                    refine r_istore_n (pc := 108) C dX1_digest_108 (by decide) ?_
                    refine V_for (P := fun i z => V E 2 0 0 (wM G a (m_hd T z)) 109 [some (.ref (a 0)), some (.int (nI i))] []) (m_d5 T) (nf (m_d4 T) (T.1 17).toNatClampNeg (nf (m_d3 T) (T.1 6).toNatClampNeg (nf (m_d2 T) (T.1 1).toNatClampNeg (nf (m_d1 T) (m_k T) 877)))) 9 (fun i hi K109 => ?_) ?_
                    · rw [nf_s, m_d5_e] at K109
                      refine r_iload_n (pc := 109) C dX1_digest_109 rfl ?_
                      refine r_bipush (pc := 110) (9) C dX1_digest_110 (by decide) ?_
                      refine r_icmp_ge (pc := 112) 131 C dX1_digest_112 (by decide) (fun c112 => ?_) (fun c112 => ?_)
                      · exact absurd c112 (lp_in R99 (by decide) hi)
                      · refine r_aload_n (pc := 115) C dX1_digest_115 rfl ?_
                        refine r_aload_n (pc := 116) C dX1_digest_116 rfl ?_
                        refine r_iload_n (pc := 117) C dX1_digest_117 rfl ?_
                        refine M_cQi (pc := 118) C (cM_howMany B a (m_hd T _) _ hI) q1079 mX1_howMany rfl dX1_digest_118 (by decide) (Nat.le_of_ble_eq_true rfl) ?_
                        rw [m_count_hd]
                        refine r_i2l (pc := 121) C dX1_digest_121 ?_
                        refine M_cQv (pc := 122) C (cM_mix B a _ _) q1088 mX1_mix rfl dX1_digest_122 (by decide) (Nat.le_of_ble_eq_true rfl) ?_
                        rw [m_mix_hd]
                        refine r_iinc (pc := 125) _ C dX1_digest_125 rfl (nI_1 i) (by decide) ?_
                        refine r_goto (pc := 128) 109 C dX1_digest_128 (by decide) ?_
                        exact K109
                    · refine r_iload_n (pc := 109) C dX1_digest_109 rfl ?_
                      refine r_bipush (pc := 110) (9) C dX1_digest_110 (by decide) ?_
                      refine r_icmp_ge (pc := 112) 131 C dX1_digest_112 (by decide) (fun c112 => ?_) (fun c112 => ?_)
                      · refine r_aload_n (pc := 131) C dX1_digest_131 rfl ?_
                        refine M_g39 (pc := 132) C dX1_digest_132 ?_
                        rw [m_hd_h, show nf (m_d5 T) 9 (nf (m_d4 T) (T.1 17).toNatClampNeg (nf (m_d3 T) (T.1 6).toNatClampNeg (nf (m_d2 T) (T.1 1).toNatClampNeg (nf (m_d1 T) (m_k T) 877)))) = m_digest T from rfl]
                        exact r_lret (pc := 135) C hR dX1_digest_135 (by decide) (by decide) ⟨rfl, rfl⟩
                      · exact absurd (lp_out R99 (by decide)) c112
                  · exact absurd (lp_out hI.page (by decide)) c87
              · exact absurd (lp_out hI.many (by decide)) c66
          · exact absurd (lp_out hI.les (by decide)) c45
      · exact absurd (m_k_out c18) c11

