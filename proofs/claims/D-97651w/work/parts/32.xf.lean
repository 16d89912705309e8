
set_option maxRecDepth 100000
def x_leftOf (S : StX) (u : Nat) : Int32 := (xpf S u 3 ^^^ (-1)) &&& (((1 : Int32) <<< (S.1 0 &&& 31)) - 1)
def x_bs (S : StX) (u : Nat) (set : Int32) (i : Nat) (q : Option (Int32 × Int32)) : Option (Int32 × Int32) := match q with
  | none => none
  | some z => if jhas (x_leftOf S u) (nI i) = 0 then some z else if jhas set (nI i) = 0 then (if x_tenthsBy S u (nI i) z.1 = 0 then none else some (z.1, z.2 + 0)) else (if x_tenthsBy S u (nI i) z.1 = 10 then none else some (fondNext (S.1 1) z.1 (xar S 5 (xpf S u 2).toNatClampNeg + (z.2 + xar S 4 i)), z.2 + xar S 4 i))
def x_bq (S : StX) (u : Nat) (set : Int32) (n : Nat) : Option (Int32 × Int32) := nf (x_bs S u set) n (some (x_fondOf S u, 0))
def x_blowsBy (S : StX) (u : Nat) (set : Int32) : Int32 := match x_bq S u set (S.1 0).toNatClampNeg with
  | none => -1
  | some z => z.2
def x_ffF (S : StX) (u : Nat) (st : Int32) (i : Nat) (q : Int32 × Int32) : Int32 × Int32 := if (nI i &&& (x_leftOf S u ^^^ (-1))) = 0 then (if x_blowsBy S u (nI i) = st then (q.1 + 1, q.2 &&& nI i) else q) else q
def x_ff (S : StX) (u : Nat) (st : Int32) : Int32 × Int32 := nf (x_ffF S u st) 32 (0, 31)
def x_faultsOf (S : StX) (u : Nat) (st w : Int32) : Int32 := if w = 0 then (x_ff S u st).1 else if (x_ff S u st).1 = 0 then -1 else (x_ff S u st).2
def x_faults (S : StX) (p st w : Int32) : Int32 := if x_isPrince S p = 0 then -101 else if jin st 0 25 = 0 then -102 else if jin w 0 1 = 0 then -102 else x_faultsOf S p.toNatClampNeg st w
theorem bq_none {S : StX} {u : Nat} {set : Int32} {n : Nat} (h : x_bq S u set n = none) : ∀ k, x_bq S u set (n + k) = none := by
  intro k
  induction k with
  | zero => exact h
  | succ k ih =>
    show x_bs S u set (n + k) (x_bq S u set (n + k)) = none
    rw [ih]
    rfl
theorem bb_none {S : StX} {u : Nat} {set : Int32} {i : Nat} (hi : i < (S.1 0).toNatClampNeg) (h : x_bq S u set (i + 1) = none) : x_blowsBy S u set = -1 := by
  unfold x_blowsBy
  have h1 := bq_none h ((S.1 0).toNatClampNeg - (i + 1))
  rw [show i + 1 + ((S.1 0).toNatClampNeg - (i + 1)) = (S.1 0).toNatClampNeg by omega] at h1
  rw [h1]
theorem bs_e {S : StX} {u : Nat} {set : Int32} {i : Nat} {x y : Int32} (h : x_bq S u set i = some (x, y)) : x_bq S u set (i + 1) = if jhas (x_leftOf S u) (nI i) = 0 then some (x, y) else if jhas set (nI i) = 0 then (if x_tenthsBy S u (nI i) x = 0 then none else some (x, y + 0)) else (if x_tenthsBy S u (nI i) x = 10 then none else some (fondNext (S.1 1) x (xar S 5 (xpf S u 2).toNatClampNeg + (y + xar S 4 i)), y + xar S 4 i)) := by
  show x_bs S u set i (x_bq S u set i) = _
  rw [h]
  rfl

set_option maxHeartbeats 4000000 in
theorem cX_leftOf {G : Gx} (B : Base G) (a : Nat → Nat) (S : StX) (u : Nat)  (hI : IX S) (hu : u < xnp S) : Ci G yX0_leftOf cX0_leftOf 2 .int (rmD 0) (wX G a) S [.ref (a 0), .ref (xpa S u)] (fun r S' => r = x_leftOf S u ∧ S' = S) := by
  refine Ci.of B [some (.ref (a 0)), some (.ref (xpa S u))] (by decide) rfl (Nat.le_of_ble_eq_true rfl) (fun E C hR => ?_)
  have C : CxOk E RX0 cX0_leftOf 2 G (rmD 0) := C
  have hu3 : u < 3 := Nat.lt_of_lt_of_le hu hI.np
  have hk5 := hI.k5 hu
  have e0 := hI.num hu
  have hb := hI.boy hu
  refine r_aload_n (pc := 0) C dX0_leftOf_0 rfl ?_
  refine P_g3 (pc := 1) C dX0_leftOf_1 (by assumption) (by assumption) ?_
  refine r_iconst (pc := 4) (-1) C dX0_leftOf_4 (by decide) ?_
  refine r_ixor (pc := 5) C dX0_leftOf_5 ?_
  refine r_iconst (pc := 6) (1) C dX0_leftOf_6 (by decide) ?_
  refine r_aload_n (pc := 7) C dX0_leftOf_7 rfl ?_
  refine X_g0 (pc := 8) C dX0_leftOf_8 ?_
  refine r_ishl (pc := 11) C dX0_leftOf_11 ?_
  refine r_iconst (pc := 12) (1) C dX0_leftOf_12 (by decide) ?_
  refine r_isub (pc := 13) C dX0_leftOf_13 ?_
  refine r_iand (pc := 14) C dX0_leftOf_14 ?_
  exact r_iret (pc := 15) C hR dX0_leftOf_15 (by decide) (by decide) ⟨rfl, rfl⟩

set_option maxHeartbeats 4000000 in
theorem cX_blowsBy {G : Gx} (B : Base G) (a : Nat → Nat) (S : StX) (u : Nat) (set : Int32) (hI : IX S) (hu : u < xnp S) : Ci G yX0_blowsBy cX0_blowsBy 8 .int (rmD 4) (wX G a) S [.ref (a 0), .ref (xpa S u), .int set] (fun r S' => r = x_blowsBy S u set ∧ S' = S) := by
  refine Ci.of B [some (.ref (a 0)), some (.ref (xpa S u)), some (.int set), none, none, none, none, none] (by decide) rfl (Nat.le_of_ble_eq_true rfl) (fun E C hR => ?_)
  have C : CxOk E RX0 cX0_blowsBy 8 G (rmD 4) := C
  have hu3 : u < 3 := Nat.lt_of_lt_of_le hu hI.np
  have hk5 := hI.k5 hu
  have e0 := hI.num hu
  have hb := hI.boy hu
  refine r_aload_n (pc := 0) C dX0_blowsBy_0 rfl ?_
  refine r_aload_n (pc := 1) C dX0_blowsBy_1 rfl ?_
  refine X_cQi (pc := 2) C (cX_fondOf B a _ _ (by assumption) (by assumption)) q394 mX0_fondOf rfl dX0_blowsBy_2 (by decide) (Nat.le_of_ble_eq_true rfl) ?_
  refine r_istore_n (pc := 5) C dX0_blowsBy_5 (by decide) ?_
  refine r_iconst (pc := 6) (0) C dX0_blowsBy_6 (by decide) ?_
  refine r_istore (pc := 7) C dX0_blowsBy_7 (by decide) ?_
  refine r_iconst (pc := 9) (0) C dX0_blowsBy_9 (by decide) ?_
  refine r_istore (pc := 10) C dX0_blowsBy_10 (by decide) ?_
  refine V_cnt (P := fun i => ∀ x y, x_bq S u set i = some (x, y) → V E 8 0 0 (wX G a S) 12 [some (.ref (a 0)), some (.ref (xpa S u)), some (.int set), some (.int x), some (.int y), some (.int (nI i)), none, none] []) (S.1 0).toNatClampNeg (fun i hi K12 x y hq => ?_) (fun x y hq => ?_) _ _ rfl
  · have hi5 : i < 5 := Nat.lt_of_lt_of_le hi hI.les.2
    have hl5 : vp_in (nI i) 5 := vp_in_nI hi5 (by decide)
    refine r_iload (pc := 12) C dX0_blowsBy_12 rfl ?_
    refine r_aload_n (pc := 14) C dX0_blowsBy_14 rfl ?_
    refine X_g0 (pc := 15) C dX0_blowsBy_15 ?_
    refine r_icmp_ge (pc := 18) 124 C dX0_blowsBy_18 (by decide) (fun c18 => ?_) (fun c18 => ?_)
    · exact absurd c18 (lp_in hI.les (by decide) hi)
    · refine r_aload_n (pc := 21) C dX0_blowsBy_21 rfl ?_
      refine r_aload_n (pc := 22) C dX0_blowsBy_22 rfl ?_
      refine X_cQi (pc := 23) C (cX_leftOf B a _ _ (by assumption) (by assumption)) q561 mX0_leftOf rfl dX0_blowsBy_23 (by decide) (Nat.le_of_ble_eq_true rfl) ?_
      refine r_iload (pc := 26) C dX0_blowsBy_26 rfl ?_
      refine S_cQi (pc := 28) C (cX_has B _ _) q254 mX0_has rfl dX0_blowsBy_28 (by decide) (Nat.le_of_ble_eq_true rfl) ?_
      refine r_if_eq (pc := 31) 118 C dX0_blowsBy_31 (by decide) (fun c31 => ?_) (fun c31 => ?_)
      · refine r_iinc (pc := 118) _ C dX0_blowsBy_118 rfl (nI_1 i) (by decide) ?_
        refine r_goto (pc := 121) 12 C dX0_blowsBy_121 (by decide) ?_
        refine V_sub ?_ (K12 _ _ ((bs_e hq).trans (if_pos c31)))
        intro q1 hq1
        simp only [lset, lset2, lvo, lkill, List.mem_cons, List.not_mem_nil, or_false] at hq1 ⊢
        rcases hq1 with h | h | h | h | h | h <;> simp [h]
      · refine r_aload_n (pc := 34) C dX0_blowsBy_34 rfl ?_
        refine r_aload_n (pc := 35) C dX0_blowsBy_35 rfl ?_
        refine r_iload (pc := 36) C dX0_blowsBy_36 rfl ?_
        refine r_iload_n (pc := 38) C dX0_blowsBy_38 rfl ?_
        refine X_cQi (pc := 39) C (cX_tenthsBy B a _ _ _ _ (by assumption) (by assumption) (by assumption)) q527 mX0_tenthsBy rfl dX0_blowsBy_39 (by decide) (Nat.le_of_ble_eq_true rfl) ?_
        refine r_istore (pc := 42) C dX0_blowsBy_42 (by decide) ?_
        refine r_iload_n (pc := 44) C dX0_blowsBy_44 rfl ?_
        refine r_iload (pc := 45) C dX0_blowsBy_45 rfl ?_
        refine S_cQi (pc := 47) C (cX_has B _ _) q254 mX0_has rfl dX0_blowsBy_47 (by decide) (Nat.le_of_ble_eq_true rfl) ?_
        refine r_istore (pc := 50) C dX0_blowsBy_50 (by decide) ?_
        refine r_iload (pc := 52) C dX0_blowsBy_52 rfl ?_
        refine r_iload (pc := 54) C dX0_blowsBy_54 rfl ?_
        refine r_if_eq (pc := 56) 64 C dX0_blowsBy_56 (by decide) (fun c56 => ?_) (fun c56 => ?_)
        · refine r_iconst (pc := 64) (0) C dX0_blowsBy_64 (by decide) ?_
          refine r_icmp_ne (pc := 65) 70 C dX0_blowsBy_65 (by decide) (fun c65 => ?_) (fun c65 => ?_)
          · refine r_iload (pc := 70) C dX0_blowsBy_70 rfl ?_
            refine r_iload (pc := 72) C dX0_blowsBy_72 rfl ?_
            refine r_if_eq (pc := 74) 87 C dX0_blowsBy_74 (by decide) (fun c74 => ?_) (fun c74 => ?_)
            · refine r_iconst (pc := 87) (0) C dX0_blowsBy_87 (by decide) ?_
              refine r_iadd (pc := 88) C dX0_blowsBy_88 ?_
              refine r_istore (pc := 89) C dX0_blowsBy_89 (by decide) ?_
              refine r_iload (pc := 91) C dX0_blowsBy_91 rfl ?_
              refine r_if_eq (pc := 93) 116 C dX0_blowsBy_93 (by decide) (fun c93 => ?_) (fun c93 => ?_)
              · refine r_iload_n (pc := 116) C dX0_blowsBy_116 rfl ?_
                refine r_istore_n (pc := 117) C dX0_blowsBy_117 (by decide) ?_
                refine r_iinc (pc := 118) _ C dX0_blowsBy_118 rfl (nI_1 i) (by decide) ?_
                refine r_goto (pc := 121) 12 C dX0_blowsBy_121 (by decide) ?_
                refine V_sub ?_ (K12 _ _ ((bs_e hq).trans ((if_neg c31).trans ((if_pos c56).trans (if_neg c65)))))
                intro q1 hq1
                simp only [lset, lset2, lvo, lkill, List.mem_cons, List.not_mem_nil, or_false] at hq1 ⊢
                rcases hq1 with h | h | h | h | h | h <;> simp [h]
              · exact absurd c56 c93
            · exact absurd c56 c74
          · refine r_iconst (pc := 68) (-1) C dX0_blowsBy_68 (by decide) ?_
            exact r_iret (pc := 69) C hR dX0_blowsBy_69 (by decide) (by decide) ⟨(bb_none hi ((bs_e hq).trans ((if_neg c31).trans ((if_pos c56).trans (if_pos c65))))).symm, rfl⟩
        · refine r_bipush (pc := 59) (10) C dX0_blowsBy_59 (by decide) ?_
          refine r_goto (pc := 61) 65 C dX0_blowsBy_61 (by decide) ?_
          refine r_icmp_ne (pc := 65) 70 C dX0_blowsBy_65 (by decide) (fun c65 => ?_) (fun c65 => ?_)
          · refine r_iload (pc := 70) C dX0_blowsBy_70 rfl ?_
            refine r_iload (pc := 72) C dX0_blowsBy_72 rfl ?_
            refine r_if_eq (pc := 74) 87 C dX0_blowsBy_74 (by decide) (fun c74 => ?_) (fun c74 => ?_)
            · exact absurd c74 c56
            · refine r_aload_n (pc := 77) C dX0_blowsBy_77 rfl ?_
              refine X_g4 (pc := 78) C dX0_blowsBy_78 ?_
              refine r_iload (pc := 81) C dX0_blowsBy_81 rfl ?_
              refine X_l4 (pc := 83) C dX0_blowsBy_83 (by assumption) ?_
              rw [nI_clamp (by omega)]
              refine r_goto (pc := 84) 88 C dX0_blowsBy_84 (by decide) ?_
              refine r_iadd (pc := 88) C dX0_blowsBy_88 ?_
              refine r_istore (pc := 89) C dX0_blowsBy_89 (by decide) ?_
              refine r_iload (pc := 91) C dX0_blowsBy_91 rfl ?_
              refine r_if_eq (pc := 93) 116 C dX0_blowsBy_93 (by decide) (fun c93 => ?_) (fun c93 => ?_)
              · exact absurd c93 c56
              · refine r_aload_n (pc := 96) C dX0_blowsBy_96 rfl ?_
                refine r_iload_n (pc := 97) C dX0_blowsBy_97 rfl ?_
                refine r_aload_n (pc := 98) C dX0_blowsBy_98 rfl ?_
                refine X_g5 (pc := 99) C dX0_blowsBy_99 ?_
                refine r_aload_n (pc := 102) C dX0_blowsBy_102 rfl ?_
                refine P_g2 (pc := 103) C dX0_blowsBy_103 (by assumption) (by assumption) ?_
                refine X_l5 (pc := 106) C dX0_blowsBy_106 (hb.in (by decide) (by decide)) ?_
                refine r_iload (pc := 107) C dX0_blowsBy_107 rfl ?_
                refine r_iadd (pc := 109) C dX0_blowsBy_109 ?_
                refine X_cQi (pc := 110) C (cX_fondThen B a _ _ _) q545 mX0_fondThen rfl dX0_blowsBy_110 (by decide) (Nat.le_of_ble_eq_true rfl) ?_
                refine r_goto (pc := 113) 117 C dX0_blowsBy_113 (by decide) ?_
                refine r_istore_n (pc := 117) C dX0_blowsBy_117 (by decide) ?_
                refine r_iinc (pc := 118) _ C dX0_blowsBy_118 rfl (nI_1 i) (by decide) ?_
                refine r_goto (pc := 121) 12 C dX0_blowsBy_121 (by decide) ?_
                refine V_sub ?_ (K12 _ _ ((bs_e hq).trans ((if_neg c31).trans ((if_neg c56).trans (if_neg c65)))))
                intro q1 hq1
                simp only [lset, lset2, lvo, lkill, List.mem_cons, List.not_mem_nil, or_false] at hq1 ⊢
                rcases hq1 with h | h | h | h | h | h <;> simp [h]
          · refine r_iconst (pc := 68) (-1) C dX0_blowsBy_68 (by decide) ?_
            exact r_iret (pc := 69) C hR dX0_blowsBy_69 (by decide) (by decide) ⟨(bb_none hi ((bs_e hq).trans ((if_neg c31).trans ((if_neg c56).trans (if_pos c65))))).symm, rfl⟩
  · refine r_iload (pc := 12) C dX0_blowsBy_12 rfl ?_
    refine r_aload_n (pc := 14) C dX0_blowsBy_14 rfl ?_
    refine X_g0 (pc := 15) C dX0_blowsBy_15 ?_
    refine r_icmp_ge (pc := 18) 124 C dX0_blowsBy_18 (by decide) (fun c18 => ?_) (fun c18 => ?_)
    · refine r_iload (pc := 124) C dX0_blowsBy_124 rfl ?_
      exact r_iret (pc := 126) C hR dX0_blowsBy_126 (by decide) (by decide) ⟨by rw [x_blowsBy, hq], rfl⟩
    · exact absurd (lp_out hI.les (by decide)) c18

set_option maxHeartbeats 4000000 in
theorem cX_faultsOf {G : Gx} (B : Base G) (a : Nat → Nat) (S : StX) (u : Nat) (st w : Int32) (hI : IX S) (hu : u < xnp S) : Ci G yX0_faultsOf cX0_faultsOf 7 .int (rmD 5) (wX G a) S [.ref (a 0), .ref (xpa S u), .int st, .int w] (fun r S' => r = x_faultsOf S u st w ∧ S' = S) := by
  refine Ci.of B [some (.ref (a 0)), some (.ref (xpa S u)), some (.int st), some (.int w), none, none, none] (by decide) rfl (Nat.le_of_ble_eq_true rfl) (fun E C hR => ?_)
  have C : CxOk E RX0 cX0_faultsOf 7 G (rmD 5) := C
  have hu3 : u < 3 := Nat.lt_of_lt_of_le hu hI.np
  have hk5 := hI.k5 hu
  have e0 := hI.num hu
  have hb := hI.boy hu
  refine r_iconst (pc := 0) (0) C dX0_faultsOf_0 (by decide) ?_
  refine r_istore (pc := 1) C dX0_faultsOf_1 (by decide) ?_
  refine r_bipush (pc := 3) (31) C dX0_faultsOf_3 (by decide) ?_
  refine r_istore (pc := 5) C dX0_faultsOf_5 (by decide) ?_
  refine r_iconst (pc := 7) (0) C dX0_faultsOf_7 (by decide) ?_
  refine r_istore (pc := 8) C dX0_faultsOf_8 (by decide) ?_
  refine V_for (P := fun i q => V E 7 0 0 (wX G a S) 10 [some (.ref (a 0)), some (.ref (xpa S u)), some (.int st), some (.int w), some (.int q.1), some (.int q.2), some (.int (nI i))] []) (x_ffF S u st) (0, 31) 32 (fun i hi K10 => ?_) ?_
  · refine r_iload (pc := 10) C dX0_faultsOf_10 rfl ?_
    refine r_bipush (pc := 12) (32) C dX0_faultsOf_12 (by decide) ?_
    refine r_icmp_ge (pc := 14) 57 C dX0_faultsOf_14 (by decide) (fun c14 => ?_) (fun c14 => ?_)
    · exact absurd c14 (nI_ge (b := 32) hi (by decide))
    · refine r_iload (pc := 17) C dX0_faultsOf_17 rfl ?_
      refine r_aload_n (pc := 19) C dX0_faultsOf_19 rfl ?_
      refine r_aload_n (pc := 20) C dX0_faultsOf_20 rfl ?_
      refine X_cQi (pc := 21) C (cX_leftOf B a _ _ (by assumption) (by assumption)) q561 mX0_leftOf rfl dX0_faultsOf_21 (by decide) (Nat.le_of_ble_eq_true rfl) ?_
      refine r_iconst (pc := 24) (-1) C dX0_faultsOf_24 (by decide) ?_
      refine r_ixor (pc := 25) C dX0_faultsOf_25 ?_
      refine r_iand (pc := 26) C dX0_faultsOf_26 ?_
      refine r_if_ne (pc := 27) 51 C dX0_faultsOf_27 (by decide) (fun c27 => ?_) (fun c27 => ?_)
      · refine r_iinc (pc := 51) _ C dX0_faultsOf_51 rfl (nI_1 i) (by decide) ?_
        refine r_goto (pc := 54) 10 C dX0_faultsOf_54 (by decide) ?_
        rw [show nf (x_ffF S u st) (i + 1) (0, 31) = x_ffF S u st i (nf (x_ffF S u st) i (0, 31)) from rfl, x_ffF, if_neg c27] at K10
        exact K10
      · refine r_aload_n (pc := 30) C dX0_faultsOf_30 rfl ?_
        refine r_aload_n (pc := 31) C dX0_faultsOf_31 rfl ?_
        refine r_iload (pc := 32) C dX0_faultsOf_32 rfl ?_
        refine X_cQi (pc := 34) C (cX_blowsBy B a _ _ _ (by assumption) (by assumption)) q611 mX0_blowsBy rfl dX0_faultsOf_34 (by decide) (Nat.le_of_ble_eq_true rfl) ?_
        refine r_iload_n (pc := 37) C dX0_faultsOf_37 rfl ?_
        refine r_icmp_ne (pc := 38) 51 C dX0_faultsOf_38 (by decide) (fun c38 => ?_) (fun c38 => ?_)
        · refine r_iinc (pc := 51) _ C dX0_faultsOf_51 rfl (nI_1 i) (by decide) ?_
          refine r_goto (pc := 54) 10 C dX0_faultsOf_54 (by decide) ?_
          rw [show nf (x_ffF S u st) (i + 1) (0, 31) = x_ffF S u st i (nf (x_ffF S u st) i (0, 31)) from rfl, x_ffF, if_pos c27, if_neg c38] at K10
          exact K10
        · refine r_iinc (pc := 41) _ C dX0_faultsOf_41 rfl rfl (by decide) ?_
          refine r_iload (pc := 44) C dX0_faultsOf_44 rfl ?_
          refine r_iload (pc := 46) C dX0_faultsOf_46 rfl ?_
          refine r_iand (pc := 48) C dX0_faultsOf_48 ?_
          refine r_istore (pc := 49) C dX0_faultsOf_49 (by decide) ?_
          refine r_iinc (pc := 51) _ C dX0_faultsOf_51 rfl (nI_1 i) (by decide) ?_
          refine r_goto (pc := 54) 10 C dX0_faultsOf_54 (by decide) ?_
          rw [show nf (x_ffF S u st) (i + 1) (0, 31) = x_ffF S u st i (nf (x_ffF S u st) i (0, 31)) from rfl, x_ffF, if_pos c27, if_pos c38] at K10
          exact K10
  · refine r_iload (pc := 10) C dX0_faultsOf_10 rfl ?_
    refine r_bipush (pc := 12) (32) C dX0_faultsOf_12 (by decide) ?_
    refine r_icmp_ge (pc := 14) 57 C dX0_faultsOf_14 (by decide) (fun c14 => ?_) (fun c14 => ?_)
    · refine r_iload_n (pc := 57) C dX0_faultsOf_57 rfl ?_
      refine r_if_ne (pc := 58) 66 C dX0_faultsOf_58 (by decide) (fun c58 => ?_) (fun c58 => ?_)
      · refine r_iload (pc := 66) C dX0_faultsOf_66 rfl ?_
        refine r_if_ne (pc := 68) 75 C dX0_faultsOf_68 (by decide) (fun c68 => ?_) (fun c68 => ?_)
        · refine r_iload (pc := 75) C dX0_faultsOf_75 rfl ?_
          exact r_iret (pc := 77) C hR dX0_faultsOf_77 (by decide) (by decide) ⟨by (rw [x_faultsOf, if_neg c58, if_neg (show ¬ (x_ff S u st).1 = 0 from c68)] <;> rfl), rfl⟩
        · refine r_iconst (pc := 71) (-1) C dX0_faultsOf_71 (by decide) ?_
          refine r_goto (pc := 72) 77 C dX0_faultsOf_72 (by decide) ?_
          exact r_iret (pc := 77) C hR dX0_faultsOf_77 (by decide) (by decide) ⟨by (rw [x_faultsOf, if_neg c58, if_pos (show (x_ff S u st).1 = 0 from c68)]), rfl⟩
      · refine r_iload (pc := 61) C dX0_faultsOf_61 rfl ?_
        refine r_goto (pc := 63) 77 C dX0_faultsOf_63 (by decide) ?_
        exact r_iret (pc := 77) C hR dX0_faultsOf_77 (by decide) (by decide) ⟨by (rw [x_faultsOf, if_pos c58] <;> rfl), rfl⟩
    · exact absurd (nI_le (a := 32) (b := 32) (by decide) (by decide)) c14

set_option maxHeartbeats 4000000 in
theorem cX_faults {G : Gx} (B : Base G) (a : Nat → Nat) (S : StX) (p st w : Int32) (hI : IX S) : Ci G yX0_faults cX0_faults 4 .int (rmD 6) (wX G a) S [.ref (a 0), .int p, .int st, .int w] (fun r S' => r = x_faults S p st w ∧ S' = S) := by
  refine Ci.of B [some (.ref (a 0)), some (.int p), some (.int st), some (.int w)] (by decide) rfl (Nat.le_of_ble_eq_true rfl) (fun E C hR => ?_)
  have C : CxOk E RX0 cX0_faults 4 G (rmD 6) := C
  refine r_aload_n (pc := 0) C dX0_faults_0 rfl ?_
  refine r_iload_n (pc := 1) C dX0_faults_1 rfl ?_
  refine X_cQi (pc := 2) C (cX_isPrince B a _ _) q366 mX0_isPrince rfl dX0_faults_2 (by decide) (Nat.le_of_ble_eq_true rfl) ?_
  refine r_if_ne (pc := 5) 11 C dX0_faults_5 (by decide) (fun c5 => ?_) (fun c5 => ?_)
  · obtain ⟨ep, hu, hu3⟩ := hI.pr c5
    have hk5 := hI.k5 hu
    refine r_iload_n (pc := 11) C dX0_faults_11 rfl ?_
    refine r_i2l (pc := 12) C dX0_faults_12 ?_
    refine r_lconst (pc := 13) 0 C dX0_faults_13 (by decide) ?_
    refine r_ldc2 (pc := 14) C dX0_faults_14 q606 ?_
    refine S_cQi (pc := 17) C (cX_isIn32 B _ 0 25) q211 mX0_isIn rfl dX0_faults_17 (by decide) (Nat.le_of_ble_eq_true rfl) ?_
    refine r_if_eq (pc := 20) 48 C dX0_faults_20 (by decide) (fun c20 => ?_) (fun c20 => ?_)
    · refine r_bipush (pc := 48) (-102) C dX0_faults_48 (by decide) ?_
      exact r_iret (pc := 50) C hR dX0_faults_50 (by decide) (by decide) ⟨by rw [x_faults, if_neg c5, if_pos c20], rfl⟩
    · refine r_iload_n (pc := 23) C dX0_faults_23 rfl ?_
      refine r_i2l (pc := 24) C dX0_faults_24 ?_
      refine r_lconst (pc := 25) 0 C dX0_faults_25 (by decide) ?_
      refine r_lconst (pc := 26) 1 C dX0_faults_26 (by decide) ?_
      refine S_cQi (pc := 27) C (cX_isIn32 B _ 0 1) q211 mX0_isIn rfl dX0_faults_27 (by decide) (Nat.le_of_ble_eq_true rfl) ?_
      refine r_if_eq (pc := 30) 48 C dX0_faults_30 (by decide) (fun c30 => ?_) (fun c30 => ?_)
      · refine r_bipush (pc := 48) (-102) C dX0_faults_48 (by decide) ?_
        exact r_iret (pc := 50) C hR dX0_faults_50 (by decide) (by decide) ⟨by rw [x_faults, if_neg c5, if_neg c20, if_pos c30], rfl⟩
      · refine r_aload_n (pc := 33) C dX0_faults_33 rfl ?_
        refine r_aload_n (pc := 34) C dX0_faults_34 rfl ?_
        refine X_g6 (pc := 35) C dX0_faults_35 ?_
        refine r_iload_n (pc := 38) C dX0_faults_38 rfl ?_
        refine X_l6 (pc := 39) C dX0_faults_39 ep hu hu3 ?_
        refine r_iload_n (pc := 40) C dX0_faults_40 rfl ?_
        refine r_iload_n (pc := 41) C dX0_faults_41 rfl ?_
        refine X_cQi (pc := 42) C (cX_faultsOf B a _ _ _ _ (by assumption) (by assumption)) q607 mX0_faultsOf rfl dX0_faults_42 (by decide) (Nat.le_of_ble_eq_true rfl) ?_
        refine r_goto (pc := 45) 50 C dX0_faults_45 (by decide) ?_
        exact r_iret (pc := 50) C hR dX0_faults_50 (by decide) (by decide) ⟨by rw [x_faults, if_neg c5, if_neg c20, if_neg c30], rfl⟩
  · refine r_bipush (pc := 8) (-101) C dX0_faults_8 (by decide) ?_
    exact r_iret (pc := 10) C hR dX0_faults_10 (by decide) (by decide) ⟨by rw [x_faults, if_pos c5], rfl⟩

