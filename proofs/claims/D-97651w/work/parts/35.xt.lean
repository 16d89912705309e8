
set_option maxRecDepth 100000
def x_ot (S : StX) (o b : Nat → Int32) (m : Int64) : StX := setXl (setXa (setXa S 12 o) 13 b) 15 m
theorem x_ot12 (S : StX) (o b g : Nat → Int32) (m : Int64) : setXa (x_ot S o b m) 12 g = x_ot S g b m := by
  unfold x_ot setXl setXa
  show (S.1, va_up S.2.1 15 m, va_up (va_up (va_up S.2.2.1 12 o) 13 b) 12 g, S.2.2.2) = (S.1, va_up S.2.1 15 m, va_up (va_up S.2.2.1 12 g) 13 b, S.2.2.2)
  rw [up_comm _ (by decide : ¬ 13 = 12), up_up]
theorem x_otN (S : StX) (o b : Nat → Int32) (m v : Int64) : setXa (setXl (x_ot S o b m) 15 v) 13 o = x_ot S o o v := by
  unfold x_ot setXl setXa
  show (S.1, va_up (va_up S.2.1 15 m) 15 v, va_up (va_up (va_up S.2.2.1 12 o) 13 b) 13 o, S.2.2.2) = (S.1, va_up S.2.1 15 v, va_up (va_up S.2.2.1 12 o) 13 o, S.2.2.2)
  rw [up_up, up_up]
def cmp1 (F : Int32 → List (List Nat)) (left : Int32) (i : Nat) : List (List Nat) := (List.range i).flatMap (fun l => if jhas left (nI l) = 0 then [] else (F (left &&& (((1 : Int32) <<< (nI l &&& 31)) ^^^ (-1)))).map (fun c => l :: c))
theorem cmp1_s (F : Int32 → List (List Nat)) (left : Int32) (i : Nat) : cmp1 F left (i + 1) = cmp1 F left i ++ (if jhas left (nI i) = 0 then [] else (F (left &&& (((1 : Int32) <<< (nI i &&& 31)) ^^^ (-1)))).map (fun c => i :: c)) := by
  unfold cmp1
  rw [List.range_succ, List.flatMap_append]
  congr 1
  simp
/-- in which orders the lessons that are left can be set, the first by numbers first -/
def comps (L : Nat) : Nat → Int32 → List (List Nat)
  | 0, _ => [[]]
  | r + 1, left => cmp1 (comps L r) left L
def updB (mean : List Nat → Nat) (b : Option (Nat × List Nat)) (o : List Nat) : Option (Nat × List Nat) := match b with
  | none => some (mean o, o)
  | some q => if q.1 ≤ mean o then some q else some (mean o, o)
def mval (b : Option (Nat × List Nat)) : Int64 := match b with
  | none => -1
  | some q => lN q.1
def BOk (b : Option (Nat × List Nat)) (arr : Nat → Int32) : Prop := ∀ q, b = some q → OOk q.2 arr ∧ q.1 < 2 ^ 62
theorem mval_z {b : Option (Nat × List Nat)} {arr : Nat → Int32} (h : BOk b arr) : lg_cmp (mval b) (-1) = 0 ↔ b = none := by
  rw [lg_eq]
  cases b with
  | none => exact ⟨fun _ => rfl, fun _ => rfl⟩
  | some q =>
    refine ⟨fun e => ?_, fun e => by cases e⟩
    have h1 := (h q rfl).2
    have h2 := congrArg Int64.toInt e
    rw [show mval (some q) = lN q.1 from rfl, pk_lT (by omega), show (-1 : Int64).toInt = -1 from rfl] at h2
    omega
theorem mval_le {q : Nat × List Nat} {m : Nat} (h1 : q.1 < 2 ^ 62) (h2 : m < 2 ^ 62) : (0 ≤ lg_cmp (lN m) (mval (some q))) ↔ q.1 ≤ m := by
  rw [lg_cmp_ge]
  exact pk_lLE (by omega) (by omega)
theorem OOk.pre {l1 l2 : List Nat} {o : Nat → Int32} (h : OOk (l1 ++ l2) o) : OOk l1 o := by
  intro k hk
  rw [h k (by rw [List.length_append]; omega)]
  congr 1
  simp [List.getD, List.getElem?_append, hk]
theorem foldl_pre (mean : List Nat → Nat) (b : Option (Nat × List Nat)) (pre : List Nat) (l : Nat) (cs : List (List Nat)) : ((cs.map (fun c => l :: c)).map (fun c => pre ++ c)).foldl (updB mean) b = (cs.map (fun c => (pre ++ [l]) ++ c)).foldl (updB mean) b := by
  rw [List.map_map]
  congr 1
  exact List.map_congr_left fun c _ => by simp
def x_om (S : StX) (u : Nat) (o : List Nat) : Nat := x_mean S u o (x_fondOf S u) (xar S 5 (xpf S u 2).toNatClampNeg)
theorem x_om_lt {S : StX} (hI : IX S) (u : Nat) {o : List Nat} (h5 : ∀ x, x ∈ o → x < 5) (hl : o.length ≤ 5) : x_om S u o < 2 ^ 62 := by
  have h := meanN_le (tf := x_tf S u) (bf := x_bf S) (lim := S.1 1) (x_tf_le S u) (os := o) (fun l hl => (hI.blow (h5 l hl)).2) (x_fondOf S u) (xar S 5 (xpf S u 2).toNatClampNeg)
  have h2 : 10 ^ o.length ≤ 10 ^ 5 := Nat.pow_le_pow_right (by decide) hl
  have h3 : 10 ^ o.length * (5 * o.length) ≤ 10 ^ 5 * 25 := Nat.mul_le_mul h2 (by omega)
  exact Nat.lt_of_le_of_lt (Nat.le_trans h h3) (by decide)
def x_best (S : StX) (u n : Nat) (left : Int32) (pre : List Nat) (b : Option (Nat × List Nat)) : Option (Nat × List Nat) := ((comps (S.1 0).toNatClampNeg n left).map (fun c => pre ++ c)).foldl (updB (x_om S u)) b

theorem OOk.push {LL : List Nat} {arr : Nat → Int32} (h : OOk LL arr) (x : Nat) : OOk (LL ++ [x]) (upd arr LL.length (nI x)) := LOk.push h x
set_option maxHeartbeats 4000000 in
theorem cX_tryOrder {G : Gx} (B : Base G) (a : Nat → Nat) (S : StX) (u n : Nat) (hI : IX S) (hu : u < xnp S) (hn : S.1 14 = nI n) (hn5 : n ≤ 5) : ∀ (r : Nat) (pre : List Nat) (left : Int32) (o0 b0 : Nat → Int32) (best0 : Option (Nat × List Nat)), pre.length + r = n → OOk pre o0 → BOk best0 b0 → (∀ x, x ∈ pre → x < 5) → Cv G yX0_tryOrder cX0_tryOrder 6 (rmD (5 + n + r)) (wX G a) (x_ot S o0 b0 (mval best0)) [.ref (a 0), .ref (xpa S u), .int (nI pre.length), .int left] (fun S' => ∃ o1 b1, S' = x_ot S o1 b1 (mval (x_best S u r left pre best0)) ∧ OOk pre o1 ∧ BOk (x_best S u r left pre best0) b1) := by
  have hk5 := hI.k5 hu
  have e0 := hI.num hu
  have hb := hI.boy hu
  intro r
  induction r with
  | zero =>
    intro pre left o bb best hk hO hB hO5
    refine Cv.of B [some (.ref (a 0)), some (.ref (xpa S u)), some (.int (nI pre.length)), some (.int left), none, none] (by decide) rfl (Nat.le_of_ble_eq_true rfl) (fun E C hR => ?_)
    have C : CxOk E RX0 cX0_tryOrder 6 G (rmD (5 + n + 0)) := C
    have hOl : pre.length ≤ 5 := by omega
    have hOn : S.1 14 = nI pre.length := by rw [hn]; exact congrArg nI (by omega)
    have hmlt : x_om S u pre < 2 ^ 62 := x_om_lt hI u hO5 hOl
    have hpn : ∀ b, x_best S u 0 left pre b = updB (x_om S u) b pre := fun b => by
      show updB (x_om S u) b (pre ++ []) = _
      rw [List.append_nil]
    rw [hpn] at hR
    refine r_iload_n (pc := 0) C dX0_tryOrder_0 rfl ?_
    refine r_aload_n (pc := 1) C dX0_tryOrder_1 rfl ?_
    refine X_g14 (pc := 2) C dX0_tryOrder_2 ?_
    refine r_icmp_ne (pc := 5) 72 C dX0_tryOrder_5 (by decide) (fun c5 => ?_) (fun c5 => ?_)
    · exact absurd hOn.symm c5
    · skip
      refine r_aload_n (pc := 8) C dX0_tryOrder_8 rfl ?_
      refine r_aload_n (pc := 9) C dX0_tryOrder_9 rfl ?_
      refine r_iconst (pc := 10) (0) C dX0_tryOrder_10 (by decide) ?_
      refine r_aload_n (pc := 11) C dX0_tryOrder_11 rfl ?_
      refine r_aload_n (pc := 12) C dX0_tryOrder_12 rfl ?_
      refine X_cQi (pc := 13) C (cX_fondOf B a (x_ot S o bb (mval best)) u hI hu) q394 mX0_fondOf rfl dX0_tryOrder_13 (room_ok (by omega) (by decide)) (Nat.le_of_ble_eq_true rfl) ?_
      refine r_aload_n (pc := 16) C dX0_tryOrder_16 rfl ?_
      refine X_g5 (pc := 17) C dX0_tryOrder_17 ?_
      refine r_aload_n (pc := 20) C dX0_tryOrder_20 rfl ?_
      refine P_g2 (pc := 21) C dX0_tryOrder_21 (by assumption) (by assumption) ?_
      refine X_l5 (pc := 24) C dX0_tryOrder_24 (hb.in (by decide) (by decide)) ?_
      refine X_cQl (pc := 25) C (cX_meanFrom B a (x_ot S o bb (mval best)) u hI hu pre hOn hO hO5 hOl pre.length 0 _ _ (by omega)) q576 mX0_meanFrom rfl dX0_tryOrder_25 (room_ok (by omega) (by decide)) (Nat.le_of_ble_eq_true rfl) ?_
      rw [show lN (x_mean (x_ot S o bb (mval best)) u (pre.drop 0) (x_fondOf (x_ot S o bb (mval best)) u) ((x_ot S o bb (mval best)).2.2.1 5 ((x_ot S o bb (mval best)).2.2.2.2.2.2 u 2).toNatClampNeg)) = lN (x_om S u pre) from rfl]
      refine r_lstore (pc := 28) C dX0_tryOrder_28 (by decide) ?_
      refine r_aload_n (pc := 30) C dX0_tryOrder_30 rfl ?_
      refine X_g15 (pc := 31) C dX0_tryOrder_31 ?_
      refine r_ldc2 (pc := 34) C dX0_tryOrder_34 q571 ?_
      refine r_lcmp (pc := 37) C dX0_tryOrder_37 ?_
      refine r_if_eq (pc := 38) 51 C dX0_tryOrder_38 (by decide) (fun c38 => ?_) (fun c38 => ?_)
      · have c38 : best = none := (mval_z hB).mp c38
        subst c38
        refine r_aload_n (pc := 51) C dX0_tryOrder_51 rfl ?_
        refine r_lload (pc := 52) C dX0_tryOrder_52 rfl ?_
        refine X_p15 (pc := 54) C dX0_tryOrder_54 ?_
        refine r_aload_n (pc := 57) C dX0_tryOrder_57 rfl ?_
        refine X_g12 (pc := 58) C dX0_tryOrder_58 ?_
        refine r_iconst (pc := 61) (0) C dX0_tryOrder_61 (by decide) ?_
        refine r_aload_n (pc := 62) C dX0_tryOrder_62 rfl ?_
        refine X_g13 (pc := 63) C dX0_tryOrder_63 ?_
        refine r_iconst (pc := 66) (0) C dX0_tryOrder_66 (by decide) ?_
        refine r_iconst (pc := 67) (5) C dX0_tryOrder_67 (by decide) ?_
        refine X_c12_13 (pc := 68) C dX0_tryOrder_68 (room_oc (by omega)) (Nat.le_of_ble_eq_true rfl) ?_
        exact r_vret (pc := 71) C hR dX0_tryOrder_71 (Nat.zero_le _) (Nat.zero_le _) (by show ∃ o1 b1, _ = x_ot S o1 b1 (mval (updB (x_om S u) none pre)) ∧ _ ∧ BOk (updB (x_om S u) none pre) b1; exact ⟨o, o, x_otN S o bb _ _, hO, fun q hq => by cases hq; exact ⟨hO, hmlt⟩⟩)
      · have c38 : ¬ best = none := fun e => c38 ((mval_z hB).mpr e)
        obtain ⟨q, rfl⟩ : ∃ q, best = some q := by cases best with | none => exact absurd rfl c38 | some q => exact ⟨q, rfl⟩
        have hq62 := (hB q rfl).2
        refine r_lload (pc := 41) C dX0_tryOrder_41 rfl ?_
        refine r_aload_n (pc := 43) C dX0_tryOrder_43 rfl ?_
        refine X_g15 (pc := 44) C dX0_tryOrder_44 ?_
        refine r_lcmp (pc := 47) C dX0_tryOrder_47 ?_
        refine r_if_ge (pc := 48) 71 C dX0_tryOrder_48 (by decide) (fun c48 => ?_) (fun c48 => ?_)
        · have c48 : q.1 ≤ x_om S u pre := (mval_le hq62 hmlt).mp c48
          exact r_vret (pc := 71) C hR dX0_tryOrder_71 (Nat.zero_le _) (Nat.zero_le _) (by show ∃ o1 b1, _ = x_ot S o1 b1 (mval (updB (x_om S u) (some q) pre)) ∧ _ ∧ BOk (updB (x_om S u) (some q) pre) b1; rw [show updB (x_om S u) (some q) pre = _ from if_pos c48]; exact ⟨o, bb, rfl, hO, hB⟩)
        · have c48 : ¬ q.1 ≤ x_om S u pre := fun e => c48 ((mval_le hq62 hmlt).mpr e)
          refine r_aload_n (pc := 51) C dX0_tryOrder_51 rfl ?_
          refine r_lload (pc := 52) C dX0_tryOrder_52 rfl ?_
          refine X_p15 (pc := 54) C dX0_tryOrder_54 ?_
          refine r_aload_n (pc := 57) C dX0_tryOrder_57 rfl ?_
          refine X_g12 (pc := 58) C dX0_tryOrder_58 ?_
          refine r_iconst (pc := 61) (0) C dX0_tryOrder_61 (by decide) ?_
          refine r_aload_n (pc := 62) C dX0_tryOrder_62 rfl ?_
          refine X_g13 (pc := 63) C dX0_tryOrder_63 ?_
          refine r_iconst (pc := 66) (0) C dX0_tryOrder_66 (by decide) ?_
          refine r_iconst (pc := 67) (5) C dX0_tryOrder_67 (by decide) ?_
          refine X_c12_13 (pc := 68) C dX0_tryOrder_68 (room_oc (by omega)) (Nat.le_of_ble_eq_true rfl) ?_
          exact r_vret (pc := 71) C hR dX0_tryOrder_71 (Nat.zero_le _) (Nat.zero_le _) (by show ∃ o1 b1, _ = x_ot S o1 b1 (mval (updB (x_om S u) (some q) pre)) ∧ _ ∧ BOk (updB (x_om S u) (some q) pre) b1; rw [show updB (x_om S u) (some q) pre = _ from if_neg c48]; exact ⟨o, o, x_otN S o bb _ _, hO, fun q hq => by cases hq; exact ⟨hO, hmlt⟩⟩)
  | succ r ih =>
    intro pre left o0 b0 best0 hk hO0 hB0 hO5
    refine Cv.of B [some (.ref (a 0)), some (.ref (xpa S u)), some (.int (nI pre.length)), some (.int left), none, none] (by decide) rfl (Nat.le_of_ble_eq_true rfl) (fun E C hR => ?_)
    have C : CxOk E RX0 cX0_tryOrder 6 G (rmD (5 + n + (r + 1))) := C
    refine r_iload_n (pc := 0) C dX0_tryOrder_0 rfl ?_
    refine r_aload_n (pc := 1) C dX0_tryOrder_1 rfl ?_
    refine X_g14 (pc := 2) C dX0_tryOrder_2 ?_
    refine r_icmp_ne (pc := 5) 72 C dX0_tryOrder_5 (by decide) (fun c5 => ?_) (fun c5 => ?_)
    · skip
      refine r_iconst (pc := 72) (0) C dX0_tryOrder_72 (by decide) ?_
      refine r_istore (pc := 73) C dX0_tryOrder_73 (by decide) ?_
      refine V_cnt (P := fun i => ∀ (o bb : Nat → Int32) (best : Option (Nat × List Nat)), OOk pre o → BOk best bb → best = ((cmp1 (comps (S.1 0).toNatClampNeg r) left i).map (fun c => pre ++ c)).foldl (updB (x_om S u)) best0 → V E 6 0 0 (wX G a (x_ot S o bb (mval best))) 75 [some (.ref (a 0)), some (.ref (xpa S u)), some (.int (nI pre.length)), some (.int left), some (.int (nI i)), none] []) (S.1 0).toNatClampNeg (fun i hi K75 o bb best hO hB hbest => ?_) (fun o bb best hO hB hbest => ?_) o0 b0 best0 hO0 hB0 rfl
      · have hi5 : i < 5 := Nat.lt_of_lt_of_le hi hI.les.2
        refine r_iload (pc := 75) C dX0_tryOrder_75 rfl ?_
        refine r_aload_n (pc := 77) C dX0_tryOrder_77 rfl ?_
        refine X_g0 (pc := 78) C dX0_tryOrder_78 ?_
        refine r_icmp_ge (pc := 81) 123 C dX0_tryOrder_81 (by decide) (fun c81 => ?_) (fun c81 => ?_)
        · exact absurd c81 (lp_in hI.les (by decide) hi)
        · refine r_iload_n (pc := 84) C dX0_tryOrder_84 rfl ?_
          refine r_iload (pc := 85) C dX0_tryOrder_85 rfl ?_
          refine S_cQi (pc := 87) C (cX_has B _ _) q254 mX0_has rfl dX0_tryOrder_87 (room_ok (by omega) (by decide)) (Nat.le_of_ble_eq_true rfl) ?_
          refine r_if_eq (pc := 90) 117 C dX0_tryOrder_90 (by decide) (fun c90 => ?_) (fun c90 => ?_)
          · refine r_iinc (pc := 117) _ C dX0_tryOrder_117 rfl (nI_1 i) (by decide) ?_
            refine r_goto (pc := 120) 75 C dX0_tryOrder_120 (by decide) ?_
            exact K75 o bb best hO hB (by rw [cmp1_s, if_pos c90, List.append_nil]; exact hbest)
          · refine r_aload_n (pc := 93) C dX0_tryOrder_93 rfl ?_
            refine X_g12 (pc := 94) C dX0_tryOrder_94 ?_
            refine r_iload_n (pc := 97) C dX0_tryOrder_97 rfl ?_
            refine r_iload (pc := 98) C dX0_tryOrder_98 rfl ?_
            refine X_s12 (pc := 100) C dX0_tryOrder_100 (vp_in_nI (by omega) (by decide)) ?_
            rw [x_ot12, nI_clamp (by omega)]
            refine r_aload_n (pc := 101) C dX0_tryOrder_101 rfl ?_
            refine r_aload_n (pc := 102) C dX0_tryOrder_102 rfl ?_
            refine r_iload_n (pc := 103) C dX0_tryOrder_103 rfl ?_
            refine r_iconst (pc := 104) (1) C dX0_tryOrder_104 (by decide) ?_
            refine r_iadd (pc := 105) C dX0_tryOrder_105 ?_
            refine r_iload_n (pc := 106) C dX0_tryOrder_106 rfl ?_
            refine r_iconst (pc := 107) (1) C dX0_tryOrder_107 (by decide) ?_
            refine r_iload (pc := 108) C dX0_tryOrder_108 rfl ?_
            refine r_ishl (pc := 110) C dX0_tryOrder_110 ?_
            refine r_iconst (pc := 111) (-1) C dX0_tryOrder_111 (by decide) ?_
            refine r_ixor (pc := 112) C dX0_tryOrder_112 ?_
            refine r_iand (pc := 113) C dX0_tryOrder_113 ?_
            rw [nI_1, show pre.length + 1 = (pre ++ [i]).length from by rw [List.length_append, List.length_singleton]]
            refine X_cIv (pc := 114) C (ih (pre ++ [i]) _ (upd o pre.length (nI i)) bb best (by rw [List.length_append, List.length_singleton]; omega) (hO.push i) hB (fun x hx => by rcases List.mem_append.mp hx with h | h; exact hO5 x h; rw [List.mem_singleton.mp h]; exact hi5)) q572 mX0_tryOrder rfl dX0_tryOrder_114 (room_okI (by omega) (by decide)) (Nat.le_of_ble_eq_true rfl) (fun S2 h2 => ?_)
            obtain ⟨o2, b2, rfl, hO2, hB2⟩ := h2
            refine r_iinc (pc := 117) _ C dX0_tryOrder_117 rfl (nI_1 i) (by decide) ?_
            refine r_goto (pc := 120) 75 C dX0_tryOrder_120 (by decide) ?_
            exact K75 o2 b2 _ hO2.pre hB2 (by rw [cmp1_s, if_neg c90, List.map_append, List.foldl_append, ← hbest, foldl_pre]; rfl)
      · refine r_iload (pc := 75) C dX0_tryOrder_75 rfl ?_
        refine r_aload_n (pc := 77) C dX0_tryOrder_77 rfl ?_
        refine X_g0 (pc := 78) C dX0_tryOrder_78 ?_
        refine r_icmp_ge (pc := 81) 123 C dX0_tryOrder_81 (by decide) (fun c81 => ?_) (fun c81 => ?_)
        · exact r_vret (pc := 123) C hR dX0_tryOrder_123 (Nat.zero_le _) (Nat.zero_le _) ⟨o, bb, by rw [hbest]; rfl, hO, by rw [show x_best S u (r + 1) left pre best0 = best from hbest.symm]; exact hB⟩
        · exact absurd (lp_out hI.les (by decide)) c81
    · exact absurd (c5.trans hn) (fun e => absurd ((nI_eq (by omega) (by omega)).mp e) (by omega))


def x_n (S : StX) (u : Nat) : Nat := (llist (xpf S u 3) (S.1 0).toNatClampNeg).length
def lbits (b l : Int32) : Int32 := (b ^^^ (-1)) &&& (((1 : Int32) <<< (l &&& 31)) - 1)
theorem jbc_left0 : ∀ b, b < 32 → ∀ L, L ≤ 5 → jbc (lbits (nI b) (nI L)) = nI (llist (nI b) L).length := by decide +kernel
theorem comps_ne0 : ∀ b, b < 32 → ∀ L, L ≤ 5 → comps L (llist (nI b) L).length (lbits (nI b) (nI L)) ≠ [] := by decide +kernel
theorem jbc_left {S : StX} (hI : IX S) {u : Nat} (hu : u < xnp S) : jbc (x_leftOf S u) = nI (x_n S u) := by
  have h1 := hI.lrn hu
  have h2 := hI.les
  have h := jbc_left0 _ (Nat.lt_succ_of_le h1.2) _ h2.2
  rw [← h1.1, ← h2.1] at h
  exact h
theorem comps_ne {S : StX} (hI : IX S) {u : Nat} (hu : u < xnp S) : comps (S.1 0).toNatClampNeg (x_n S u) (x_leftOf S u) ≠ [] := by
  have h1 := hI.lrn hu
  have h2 := hI.les
  have h := comps_ne0 _ (Nat.lt_succ_of_le h1.2) _ h2.2
  rw [← h1.1, ← h2.1] at h
  exact h
theorem comps_len (L : Nat) : ∀ r left c, c ∈ comps L r left → c.length = r ∧ ∀ x, x ∈ c → x < L := by
  intro r
  induction r with
  | zero =>
    intro left c hc
    rw [List.mem_singleton.mp hc]
    exact ⟨rfl, fun x hx => by cases hx⟩
  | succ r ih =>
    intro left c hc
    obtain ⟨l, hl, h⟩ := List.mem_flatMap.mp hc
    split at h
    · cases h
    · obtain ⟨d, hd, rfl⟩ := List.mem_map.mp h
      have h2 := ih _ d hd
      refine ⟨by rw [List.length_cons, h2.1], fun x hx => ?_⟩
      rcases List.mem_cons.mp hx with e | e
      · rw [e]; exact List.mem_range.mp hl
      · exact h2.2 x e
/-- the best of some orders is one of them, with its own mean -/
theorem fold_mem (mean : List Nat → Nat) : ∀ (cs : List (List Nat)) (b : Option (Nat × List Nat)), (b = none → cs ≠ []) → ∃ q, cs.foldl (updB mean) b = some q ∧ (b = some q ∨ (q.2 ∈ cs ∧ q.1 = mean q.2)) := by
  intro cs
  induction cs with
  | nil =>
    intro b h
    cases b with
    | none => exact absurd rfl (h rfl)
    | some q => exact ⟨q, rfl, Or.inl rfl⟩
  | cons c cs ih =>
    intro b h
    have hne : ∃ z, updB mean b c = some z := by
      cases b with
      | none => exact ⟨_, rfl⟩
      | some q =>
        unfold updB
        by_cases h1 : q.1 ≤ mean c
        · exact ⟨q, by simp [h1]⟩
        · exact ⟨(mean c, c), by simp [h1]⟩
    obtain ⟨z, hz⟩ := hne
    obtain ⟨q, hq, hor⟩ := ih (updB mean b c) (fun e => by rw [hz] at e; cases e)
    refine ⟨q, hq, ?_⟩
    rcases hor with e | e
    · cases b with
      | none =>
        have e2 : q = (mean c, c) := (Option.some.inj e).symm
        exact Or.inr ⟨by rw [e2]; exact List.mem_cons_self, by rw [e2]⟩
      | some p =>
        unfold updB at e
        by_cases h1 : p.1 ≤ mean c
        · simp [h1] at e
          exact Or.inl (by rw [e])
        · simp [h1] at e
          have e2 : q = (mean c, c) := e.symm
          exact Or.inr ⟨by rw [e2]; exact List.mem_cons_self, by rw [e2]⟩
    · exact Or.inr ⟨List.mem_cons_of_mem _ e.1, e.2⟩
def x_bst (S : StX) (u : Nat) : Option (Nat × List Nat) := (comps (S.1 0).toNatClampNeg (x_n S u) (x_leftOf S u)).foldl (updB (x_om S u)) none
theorem x_bst_ok {S : StX} (hI : IX S) {u : Nat} (hu : u < xnp S) : ∃ q, x_bst S u = some q ∧ q.2.length = x_n S u ∧ (∀ x, x ∈ q.2 → x < 5) ∧ q.1 = x_om S u q.2 := by
  obtain ⟨q, h1, h2⟩ := fold_mem (x_om S u) _ none (fun _ => comps_ne hI hu)
  rcases h2 with h2 | h2
  · cases h2
  · have h3 := comps_len _ _ _ _ h2.1
    exact ⟨q, h1, h3.1, fun x hx => Nat.lt_of_lt_of_le (h3.2 x hx) hI.les.2, h2.2⟩
theorem x_best_bst (S : StX) (u : Nat) (v : Int32) : x_best (setXi S 14 v) u (x_n S u) (x_leftOf S u) [] none = x_bst S u := by
  unfold x_best x_bst
  rw [show (fun c : List Nat => [] ++ c) = id from rfl, List.map_id]
  rfl
def x_tellOrder (S : StX) (u : Nat) (w : Int32) : Int64 := match x_bst S u with
  | none => 0
  | some q => if w ≤ 9 then termN q.1 (10 ^ x_n S u) w else if nI (x_n S u) ≤ w - 10 then -1 else (nI (q.2.getD (w - 10).toNatClampNeg 0)).toInt64
def x_os (S S' : StX) : Prop := ∃ v o b m, S' = x_ot (setXi S 14 v) o b m
theorem x_os_id (S : StX) : x_os S S := by
  refine ⟨S.1 14, xar S 12, xar S 13, S.2.1 15, ?_⟩
  unfold x_ot setXl setXa setXi
  show S = (va_up S.1 14 (S.1 14), va_up S.2.1 15 (S.2.1 15), va_up (va_up S.2.2.1 12 (S.2.2.1 12)) 13 (S.2.2.1 13), S.2.2.2)
  rw [up_id, up_id, up_id, up_id]
theorem x_ot_id (S : StX) (m : Int64) : setXl S 15 m = x_ot S (xar S 12) (xar S 13) m := by
  unfold x_ot setXl setXa
  show (S.1, va_up S.2.1 15 m, S.2.2) = (S.1, va_up S.2.1 15 m, va_up (va_up S.2.2.1 12 (S.2.2.1 12)) 13 (S.2.2.1 13), S.2.2.2)
  rw [up_id, up_id]
def x_order (S : StX) (p w : Int32) : Int64 × StX := if x_isPrince S p = 0 then (-101, S) else if jin w 0 1 = 0 ∧ jin w 10 14 = 0 then (-102, S) else if S.1 11 = 20 then (-103, S) else (x_tellOrder S p.toNatClampNeg w, setXi S 11 (S.1 11 + 1))
theorem to_in {w : Int32} {n : Nat} (hn : n ≤ 5) (hw : ¬ (jin w 0 1 = 0 ∧ jin w 10 14 = 0)) (h9 : ¬ w ≤ 9) (h : ¬ nI n ≤ w - 10) : vp_in (w - 10) 5 ∧ (w - 10).toNatClampNeg < n := by
  have hw : ¬ jin w 10 14 = 0 := by
    intro e
    refine hw ⟨?_, e⟩
    rw [jin_eq0]
    exact fun h2 => h9 (Int32.le_trans h2.2 (by decide))
  obtain ⟨h1, h2⟩ := jin_ne0.mp hw
  obtain ⟨k, hk, rfl⟩ := nI_of2 (x := w) (M := 14) (n := 14) rfl (Int32.not_lt.mpr (Int32.le_trans (by decide) h1)) h2
  have h3 : 10 ≤ k := (nI_leI (a := 10) (by decide) (by omega)).mp h1
  rw [show (10 : Int32) = nI 10 from rfl, pk_sub h3] at h ⊢
  rw [nI_leI (by omega) (by omega)] at h
  rw [nI_clamp (by omega)]
  exact ⟨vp_in_nI (by omega) (by decide), by omega⟩

theorem x_tellOrder_e {S : StX} {u : Nat} {w : Int32} {q : Nat × List Nat} (h : x_bst S u = some q) : x_tellOrder S u w = if w ≤ 9 then termN q.1 (10 ^ x_n S u) w else if nI (x_n S u) ≤ w - 10 then -1 else (nI (q.2.getD (w - 10).toNatClampNeg 0)).toInt64 := by
  unfold x_tellOrder
  rw [h]
set_option maxHeartbeats 4000000 in
theorem cX_tellOrder {G : Gx} (B : Base G) (a : Nat → Nat) (S : StX) (u : Nat) (w : Int32) (hI : IX S) (hu : u < xnp S) (hw : ¬ (jin w 0 1 = 0 ∧ jin w 10 14 = 0)) : Cl G yX0_tellOrder cX0_tellOrder 7 (rmD 20) (wX G a) S [.ref (a 0), .ref (xpa S u), .int w] (fun r S' => r = x_tellOrder S u w ∧ x_os S S') := by
  refine Cl.of B [some (.ref (a 0)), some (.ref (xpa S u)), some (.int w), none, none, none, none] (by decide) rfl (Nat.le_of_ble_eq_true rfl) (fun E C hR => ?_)
  have C : CxOk E RX0 cX0_tellOrder 7 G (rmD 20) := C
  have hu3 : u < 3 := Nat.lt_of_lt_of_le hu hI.np
  have hk5 := hI.k5 hu
  have e0 := hI.num hu
  have hb := hI.boy hu
  obtain ⟨q, hq1, hq2, hq3, hq4⟩ := x_bst_ok hI hu
  have hn5 : x_n S u ≤ 5 := Nat.le_trans (llist_le _ _) hI.les.2
  have hp5 : 10 ^ x_n S u ≤ 10 ^ 5 := Nat.pow_le_pow_right (by decide) hn5
  refine r_aload_n (pc := 0) C dX0_tellOrder_0 rfl ?_
  refine r_aload_n (pc := 1) C dX0_tellOrder_1 rfl ?_
  refine X_cQi (pc := 2) C (cX_leftOf B a _ _ (by assumption) (by assumption)) q561 mX0_leftOf rfl dX0_tellOrder_2 (room_ok (by omega) (by decide)) (Nat.le_of_ble_eq_true rfl) ?_
  refine r_istore_n (pc := 5) C dX0_tellOrder_5 (by decide) ?_
  refine r_aload_n (pc := 6) C dX0_tellOrder_6 rfl ?_
  refine r_iload_n (pc := 7) C dX0_tellOrder_7 rfl ?_
  refine S_cQi (pc := 8) C (cJ_bitCount B _) q565 mJ6_bitCount rfl dX0_tellOrder_8 (room_ok (by omega) (by decide)) (Nat.le_of_ble_eq_true rfl) ?_
  rw [jbc_left hI hu]
  refine X_p14 (pc := 11) C dX0_tellOrder_11 ?_
  refine r_aload_n (pc := 14) C dX0_tellOrder_14 rfl ?_
  refine r_ldc2 (pc := 15) C dX0_tellOrder_15 q571 ?_
  refine X_p15 (pc := 18) C dX0_tellOrder_18 ?_
  refine V_w (congrArg (wX G a) (x_ot_id _ _)) ?_
  refine r_aload_n (pc := 21) C dX0_tellOrder_21 rfl ?_
  refine r_aload_n (pc := 22) C dX0_tellOrder_22 rfl ?_
  refine r_iconst (pc := 23) (0) C dX0_tellOrder_23 (by decide) ?_
  refine r_iload_n (pc := 24) C dX0_tellOrder_24 rfl ?_
  refine X_cIv (pc := 25) C (cX_tryOrder B a (setXi S 14 (nI (x_n S u))) u (x_n S u) hI hu rfl hn5 (x_n S u) [] (x_leftOf S u) _ _ none (Nat.zero_add _) (fun k hk => absurd hk (Nat.not_lt_zero k)) (fun q hq => by cases hq) (fun x hx => by cases hx)) q572 mX0_tryOrder rfl dX0_tellOrder_25 (room_okI (by omega) (by decide)) (Nat.le_of_ble_eq_true rfl) (fun S2 h2 => ?_)
  obtain ⟨o1, b1, rfl, -, hB1⟩ := h2
  rw [x_best_bst, hq1] at hB1 ⊢
  have hq62 := (hB1 q rfl).2
  refine r_iload_n (pc := 28) C dX0_tellOrder_28 rfl ?_
  refine r_bipush (pc := 29) (9) C dX0_tellOrder_29 (by decide) ?_
  refine r_icmp_le (pc := 31) 62 C dX0_tellOrder_31 (by decide) (fun c31 => ?_) (fun c31 => ?_)
  · refine r_lconst (pc := 62) 1 C dX0_tellOrder_62 (by decide) ?_
    refine r_lstore (pc := 63) C dX0_tellOrder_63 (by decide) ?_
    refine r_iconst (pc := 65) (0) C dX0_tellOrder_65 (by decide) ?_
    refine r_istore (pc := 66) C dX0_tellOrder_66 (by decide) ?_
    refine V_cnt (P := fun i => V E 7 0 0 (wX G a (x_ot (setXi S 14 (nI (x_n S u))) o1 b1 (mval (some q)))) 68 [some (.ref (a 0)), some (.ref (xpa S u)), some (.int w), some (.int (x_leftOf S u)), some (.long (lN (10 ^ i))), none, some (.int (nI i))] []) (x_n S u) (fun i hi K68 => ?_) ?_
    · refine r_iload (pc := 68) C dX0_tellOrder_68 rfl ?_
      refine r_aload_n (pc := 70) C dX0_tellOrder_70 rfl ?_
      refine X_g14 (pc := 71) C dX0_tellOrder_71 ?_
      refine r_icmp_ge (pc := 74) 91 C dX0_tellOrder_74 (by decide) (fun c74 => ?_) (fun c74 => ?_)
      · have c74 : nI (x_n S u) ≤ nI i := c74
        exact absurd c74 (nI_ge hi (by omega))
      · refine r_lload (pc := 77) C dX0_tellOrder_77 rfl ?_
        refine r_ldc2 (pc := 79) C dX0_tellOrder_79 q374 ?_
        refine r_lmul (pc := 82) C dX0_tellOrder_82 ?_
        rw [show lN (10 ^ i) * 10 = lN (10 ^ (i + 1)) from by rw [show (10 : Int64) = lN 10 from rfl, lN_mul, Nat.pow_succ]]
        refine r_lstore (pc := 83) C dX0_tellOrder_83 (by decide) ?_
        refine r_iinc (pc := 85) _ C dX0_tellOrder_85 rfl (nI_1 i) (by decide) ?_
        refine r_goto (pc := 88) 68 C dX0_tellOrder_88 (by decide) ?_
        exact K68
    · refine r_iload (pc := 68) C dX0_tellOrder_68 rfl ?_
      refine r_aload_n (pc := 70) C dX0_tellOrder_70 rfl ?_
      refine X_g14 (pc := 71) C dX0_tellOrder_71 ?_
      refine r_icmp_ge (pc := 74) 91 C dX0_tellOrder_74 (by decide) (fun c74 => ?_) (fun c74 => ?_)
      · refine r_aload_n (pc := 91) C dX0_tellOrder_91 rfl ?_
        refine X_g15 (pc := 92) C dX0_tellOrder_92 ?_
        refine r_lload (pc := 95) C dX0_tellOrder_95 rfl ?_
        refine r_iload_n (pc := 97) C dX0_tellOrder_97 rfl ?_
        refine S_cQl (pc := 98) C (cX_term B q.1 (10 ^ x_n S u) _ hq62 (Nat.lt_of_le_of_lt hp5 (by decide)) (Nat.pow_pos (by decide))) q583 mX0_term rfl dX0_tellOrder_98 (room_ok (by omega) (by decide)) (Nat.le_of_ble_eq_true rfl) ?_
        exact r_lret (pc := 101) C hR dX0_tellOrder_101 (Nat.le_refl 0) (Nat.le_refl 0) ⟨by rw [x_tellOrder_e hq1, if_pos c31], _, _, _, _, rfl⟩
      · exact absurd (show nI (x_n S u) ≤ nI (x_n S u) from Int32.le_refl _) c74
  · refine r_iload_n (pc := 34) C dX0_tellOrder_34 rfl ?_
    refine r_bipush (pc := 35) (10) C dX0_tellOrder_35 (by decide) ?_
    refine r_isub (pc := 37) C dX0_tellOrder_37 ?_
    refine r_aload_n (pc := 38) C dX0_tellOrder_38 rfl ?_
    refine X_g14 (pc := 39) C dX0_tellOrder_39 ?_
    refine r_icmp_ge (pc := 42) 58 C dX0_tellOrder_42 (by decide) (fun c42 => ?_) (fun c42 => ?_)
    · have c42 : nI (x_n S u) ≤ w - 10 := c42
      refine r_ldc2 (pc := 58) C dX0_tellOrder_58 q571 ?_
      exact r_lret (pc := 61) C hR dX0_tellOrder_61 (Nat.le_refl 0) (Nat.le_refl 0) ⟨by rw [x_tellOrder_e hq1, if_neg c31, if_pos c42], _, _, _, _, rfl⟩
    · have c42 : ¬ nI (x_n S u) ≤ w - 10 := c42
      obtain ⟨hv5, hvn⟩ := to_in hn5 hw c31 c42
      refine r_aload_n (pc := 45) C dX0_tellOrder_45 rfl ?_
      refine X_g13 (pc := 46) C dX0_tellOrder_46 ?_
      refine r_iload_n (pc := 49) C dX0_tellOrder_49 rfl ?_
      refine r_bipush (pc := 50) (10) C dX0_tellOrder_50 (by decide) ?_
      refine r_isub (pc := 52) C dX0_tellOrder_52 ?_
      refine X_l13 (pc := 53) C dX0_tellOrder_53 hv5 ?_
      refine r_i2l (pc := 54) C dX0_tellOrder_54 ?_
      refine r_goto (pc := 55) 61 C dX0_tellOrder_55 (by decide) ?_
      exact r_lret (pc := 61) C hR dX0_tellOrder_61 (Nat.le_refl 0) (Nat.le_refl 0) ⟨by rw [x_tellOrder_e hq1, if_neg c31, if_neg c42]; exact congrArg Int32.toInt64 ((hB1 q rfl).1 _ (by rw [hq2]; exact hvn)), _, _, _, _, rfl⟩

set_option maxHeartbeats 4000000 in
theorem cX_order {G : Gx} (B : Base G) (a : Nat → Nat) (S : StX) (p w : Int32) (hI : IX S) : Cl G yX0_order cX0_order 3 (rmD 21) (wX G a) S [.ref (a 0), .int p, .int w] (fun r S' => r = (x_order S p w).1 ∧ x_os (x_order S p w).2 S') := by
  refine Cl.of B [some (.ref (a 0)), some (.int p), some (.int w)] (by decide) rfl (Nat.le_of_ble_eq_true rfl) (fun E C hR => ?_)
  have C : CxOk E RX0 cX0_order 3 G (rmD 21) := C
  refine r_aload_n (pc := 0) C dX0_order_0 rfl ?_
  refine r_iload_n (pc := 1) C dX0_order_1 rfl ?_
  refine X_cQi (pc := 2) C (cX_isPrince B a _ _) q366 mX0_isPrince rfl dX0_order_2 (room_ok (by omega) (by decide)) (Nat.le_of_ble_eq_true rfl) ?_
  refine r_if_ne (pc := 5) 12 C dX0_order_5 (by decide) (fun c5 => ?_) (fun c5 => ?_)
  · obtain ⟨ep, hu, hu3⟩ := hI.pr c5
    have hk5 := hI.k5 hu
    refine r_iload_n (pc := 12) C dX0_order_12 rfl ?_
    refine r_i2l (pc := 13) C dX0_order_13 ?_
    refine r_lconst (pc := 14) 0 C dX0_order_14 (by decide) ?_
    refine r_lconst (pc := 15) 1 C dX0_order_15 (by decide) ?_
    refine S_cQi (pc := 16) C (cX_isIn32 B _ 0 1) q211 mX0_isIn rfl dX0_order_16 (room_ok (by omega) (by decide)) (Nat.le_of_ble_eq_true rfl) ?_
    refine r_if_ne (pc := 19) 40 C dX0_order_19 (by decide) (fun c19 => ?_) (fun c19 => ?_)
    · have hw : ¬ (jin w 0 1 = 0 ∧ jin w 10 14 = 0) := fun h => c19 h.1
      refine r_aload_n (pc := 40) C dX0_order_40 rfl ?_
      refine X_g11 (pc := 41) C dX0_order_41 ?_
      refine r_bipush (pc := 44) (20) C dX0_order_44 (by decide) ?_
      refine r_icmp_ne (pc := 46) 53 C dX0_order_46 (by decide) (fun c46 => ?_) (fun c46 => ?_)
      · refine r_aload_n (pc := 53) C dX0_order_53 rfl ?_
        refine r_dup (pc := 54) C dX0_order_54 rfl ?_
        refine X_g11 (pc := 55) C dX0_order_55 ?_
        refine r_iconst (pc := 58) (1) C dX0_order_58 (by decide) ?_
        refine r_iadd (pc := 59) C dX0_order_59 ?_
        refine X_p11 (pc := 60) C dX0_order_60 ?_
        refine r_aload_n (pc := 63) C dX0_order_63 rfl ?_
        refine r_aload_n (pc := 64) C dX0_order_64 rfl ?_
        refine X_g6 (pc := 65) C dX0_order_65 ?_
        refine r_iload_n (pc := 68) C dX0_order_68 rfl ?_
        refine X_l6 (pc := 69) C dX0_order_69 ep hu hu3 ?_
        refine r_iload_n (pc := 70) C dX0_order_70 rfl ?_
        refine X_cIl (pc := 71) C (cX_tellOrder B a (setXi S 11 (S.1 11 + 1)) p.toNatClampNeg _ hI hu hw) q557 mX0_tellOrder rfl dX0_order_71 (room_okI (by omega) (by decide)) (Nat.le_of_ble_eq_true rfl) (fun r1 S1 h1 => ?_)
        obtain ⟨rfl, h1⟩ := h1
        exact r_lret (pc := 74) C hR dX0_order_74 (by decide) (by decide) ⟨by rw [x_order, if_neg c5, if_neg hw, if_neg c46]; rfl, by rw [x_order, if_neg c5, if_neg hw, if_neg c46]; exact h1⟩
      · refine r_ldc2 (pc := 49) C dX0_order_49 q556 ?_
        exact r_lret (pc := 52) C hR dX0_order_52 (by decide) (by decide) ⟨by rw [x_order, if_neg c5, if_neg hw, if_pos c46], by rw [x_order, if_neg c5, if_neg hw, if_pos c46]; exact x_os_id S⟩
    · refine r_iload_n (pc := 22) C dX0_order_22 rfl ?_
      refine r_i2l (pc := 23) C dX0_order_23 ?_
      refine r_ldc2 (pc := 24) C dX0_order_24 q374 ?_
      refine r_ldc2 (pc := 27) C dX0_order_27 q554 ?_
      refine S_cQi (pc := 30) C (cX_isIn32 B _ 10 14) q211 mX0_isIn rfl dX0_order_30 (room_ok (by omega) (by decide)) (Nat.le_of_ble_eq_true rfl) ?_
      refine r_if_ne (pc := 33) 40 C dX0_order_33 (by decide) (fun c33 => ?_) (fun c33 => ?_)
      · have hw : ¬ (jin w 0 1 = 0 ∧ jin w 10 14 = 0) := fun h => c33 h.2
        refine r_aload_n (pc := 40) C dX0_order_40 rfl ?_
        refine X_g11 (pc := 41) C dX0_order_41 ?_
        refine r_bipush (pc := 44) (20) C dX0_order_44 (by decide) ?_
        refine r_icmp_ne (pc := 46) 53 C dX0_order_46 (by decide) (fun c46 => ?_) (fun c46 => ?_)
        · refine r_aload_n (pc := 53) C dX0_order_53 rfl ?_
          refine r_dup (pc := 54) C dX0_order_54 rfl ?_
          refine X_g11 (pc := 55) C dX0_order_55 ?_
          refine r_iconst (pc := 58) (1) C dX0_order_58 (by decide) ?_
          refine r_iadd (pc := 59) C dX0_order_59 ?_
          refine X_p11 (pc := 60) C dX0_order_60 ?_
          refine r_aload_n (pc := 63) C dX0_order_63 rfl ?_
          refine r_aload_n (pc := 64) C dX0_order_64 rfl ?_
          refine X_g6 (pc := 65) C dX0_order_65 ?_
          refine r_iload_n (pc := 68) C dX0_order_68 rfl ?_
          refine X_l6 (pc := 69) C dX0_order_69 ep hu hu3 ?_
          refine r_iload_n (pc := 70) C dX0_order_70 rfl ?_
          refine X_cIl (pc := 71) C (cX_tellOrder B a (setXi S 11 (S.1 11 + 1)) p.toNatClampNeg _ hI hu hw) q557 mX0_tellOrder rfl dX0_order_71 (room_okI (by omega) (by decide)) (Nat.le_of_ble_eq_true rfl) (fun r1 S1 h1 => ?_)
          obtain ⟨rfl, h1⟩ := h1
          exact r_lret (pc := 74) C hR dX0_order_74 (by decide) (by decide) ⟨by rw [x_order, if_neg c5, if_neg hw, if_neg c46]; rfl, by rw [x_order, if_neg c5, if_neg hw, if_neg c46]; exact h1⟩
        · refine r_ldc2 (pc := 49) C dX0_order_49 q556 ?_
          exact r_lret (pc := 52) C hR dX0_order_52 (by decide) (by decide) ⟨by rw [x_order, if_neg c5, if_neg hw, if_pos c46], by rw [x_order, if_neg c5, if_neg hw, if_pos c46]; exact x_os_id S⟩
      · refine r_ldc2 (pc := 36) C dX0_order_36 q555 ?_
        exact r_lret (pc := 39) C hR dX0_order_39 (by decide) (by decide) ⟨by rw [x_order, if_neg c5, if_pos ⟨c19, c33⟩], by rw [x_order, if_neg c5, if_pos ⟨c19, c33⟩]; exact x_os_id S⟩
  · refine r_ldc2 (pc := 8) C dX0_order_8 q553 ?_
    exact r_lret (pc := 11) C hR dX0_order_11 (by decide) (by decide) ⟨by rw [x_order, if_pos c5], by rw [x_order, if_pos c5]; exact x_os_id S⟩

