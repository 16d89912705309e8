
set_option maxRecDepth 100000
/-- the mean of blows of a row of lessons, times ten to how many there are -/
def meanN (tf : Nat → Int32 → Nat) (bf : Nat → Nat) (lim : Int32) : List Nat → Int32 → Int32 → Nat
  | [], _, _ => 0
  | l :: os, f, s => tf l f * meanN tf bf lim os f s + (10 - tf l f) * (meanN tf bf lim os (fondNext lim f (s + nI (bf l))) (s + nI (bf l)) + 10 ^ os.length * bf l)
theorem meanN_le {tf : Nat → Int32 → Nat} {bf : Nat → Nat} {lim : Int32} (ht : ∀ l f, tf l f ≤ 10) {os : List Nat} (hb : ∀ l, l ∈ os → bf l ≤ 5) : ∀ f s, meanN tf bf lim os f s ≤ 10 ^ os.length * (5 * os.length) := by
  induction os with
  | nil => intro f s; exact Nat.le_refl _
  | cons l os ih =>
    intro f s
    have ih := ih (fun x hx => hb x (List.mem_cons_of_mem _ hx))
    have h1 := ih f s
    have h2 := ih (fondNext lim f (s + nI (bf l))) (s + nI (bf l))
    have h3 := hb l List.mem_cons_self
    have h4 := ht l f
    show tf l f * meanN tf bf lim os f s + (10 - tf l f) * (meanN tf bf lim os _ _ + 10 ^ os.length * bf l) ≤ 10 ^ (os.length + 1) * (5 * (os.length + 1))
    have e : 10 ^ (os.length + 1) * (5 * (os.length + 1)) = 10 * (10 ^ os.length * (5 * (os.length + 1))) := by rw [Nat.pow_succ, Nat.mul_comm (10 ^ os.length) 10, Nat.mul_assoc]
    rw [e]
    generalize meanN tf bf lim os f s = x at h1
    generalize meanN tf bf lim os (fondNext lim f (s + nI (bf l))) (s + nI (bf l)) = y at h2
    generalize tf l f = t at h4
    generalize 10 ^ os.length = P at h1 h2
    have h5 : y + P * bf l ≤ P * (5 * (os.length + 1)) := by
      have h7 : P * bf l ≤ P * 5 := Nat.mul_le_mul_left _ h3
      calc y + P * bf l ≤ P * (5 * os.length) + P * 5 := Nat.add_le_add h2 h7
        _ = P * (5 * (os.length + 1)) := by rw [← Nat.mul_add, Nat.mul_add 5]
    have h6 : x ≤ P * (5 * (os.length + 1)) := Nat.le_trans h1 (Nat.mul_le_mul_left _ (by omega))
    generalize P * (5 * (os.length + 1)) = Q at h5 h6
    calc t * x + (10 - t) * (y + P * bf l) ≤ t * Q + (10 - t) * Q := Nat.add_le_add (Nat.mul_le_mul_left _ h6) (Nat.mul_le_mul_left _ h5)
      _ = 10 * Q := by rw [← Nat.add_mul]; congr 1; omega
def x_tf (S : StX) (u : Nat) (l : Nat) (f : Int32) : Nat := (x_tenthsBy S u (nI l) f).toNatClampNeg
def x_bf (S : StX) (l : Nat) : Nat := (xar S 4 l).toNatClampNeg
def x_mean (S : StX) (u : Nat) (os : List Nat) (f s : Int32) : Nat := meanN (x_tf S u) (x_bf S) (S.1 1) os f s


theorem room_ok {dy d Ly : Nat} (h1 : dy + 1 ≤ d) (h2 : Ly ≤ 45) : (rmD dy).cells = 0 ∧ (rmD dy).slots = 0 ∧ 0 ≤ (rmD d).cells ∧ 0 ≤ (rmD d).slots ∧ (rmD dy).frames + 1 ≤ (rmD d).frames ∧ 8 + (Ly + 11) + (rmD dy).locals ≤ (rmD d).locals := by
  refine ⟨rfl, rfl, Nat.zero_le _, Nat.zero_le _, h1, ?_⟩
  show 8 + (Ly + 11) + 64 * dy ≤ 64 * d
  omega
theorem room_okI {dy d Ly : Nat} (h1 : dy + 1 ≤ d) (h2 : Ly ≤ 45) : 0 + (rmD dy).cells ≤ (rmD d).cells ∧ 0 + (rmD dy).slots ≤ (rmD d).slots ∧ (rmD dy).frames + 1 ≤ (rmD d).frames ∧ 8 + (Ly + 11) + (rmD dy).locals ≤ (rmD d).locals := by
  refine ⟨Nat.le_refl _, Nat.le_refl _, h1, ?_⟩
  show 8 + (Ly + 11) + 64 * dy ≤ 64 * d
  omega
theorem room_oc {d : Nat} (h : 1 ≤ d) : 1 ≤ (rmD d).frames ∧ 40 ≤ (rmD d).locals := ⟨h, by show 40 ≤ 64 * d; omega⟩
/-- the order that is laid -/
def OOk (ord : List Nat) (o : Nat → Int32) : Prop := ∀ k, k < ord.length → o k = nI (ord.getD k 0)
theorem drop_cons {ord : List Nat} {k : Nat} (h : k < ord.length) : ord.drop k = ord.getD k 0 :: ord.drop (k + 1) := by
  rw [List.drop_eq_getElem_cons h]
  congr 1
  simp [List.getD, List.getElem?_eq_getElem h]
theorem x_tf_le (S : StX) (u l : Nat) (f : Int32) : x_tf S u l f ≤ 10 := (tenthsF_rg _ _ _ _).2
theorem x_tf_e (S : StX) (u l : Nat) (f : Int32) : x_tenthsBy S u (nI l) f = nI (x_tf S u l f) := (tenthsF_rg _ _ _ _).1


theorem lv64 {a b c d e g : Nat} : lN a * lN b + lN c * (lN d + lN e * lN g) = lN (a * b + c * (d + e * g)) := by
  rw [lN_mul, lN_mul, lN_add, lN_mul, lN_add]
theorem mean_eqAB {S : StX} {u l n : Nat} {os : List Nat} {f s : Int32} (hlen : os.length = n) (_ : ¬ x_tf S u l f = 0) (_ : ¬ x_tf S u l f = 10) : lN (x_tf S u l f) * lN (x_mean S u os f s) + lN (10 - x_tf S u l f) * (lN (x_mean S u os (fondNext (S.1 1) f (s + nI (x_bf S l))) (s + nI (x_bf S l))) + lN (10 ^ n) * lN (x_bf S l)) = lN (meanN (x_tf S u) (x_bf S) (S.1 1) (l :: os) f s) := by
  rw [lv64, ← hlen]
  rfl
theorem mean_eq0B {S : StX} {u l n : Nat} {os : List Nat} {f s : Int32} (hlen : os.length = n) (h : x_tf S u l f = 0) (_ : ¬ x_tf S u l f = 10) : lN (x_tf S u l f) * 0 + lN (10 - x_tf S u l f) * (lN (x_mean S u os (fondNext (S.1 1) f (s + nI (x_bf S l))) (s + nI (x_bf S l))) + lN (10 ^ n) * lN (x_bf S l)) = lN (meanN (x_tf S u) (x_bf S) (S.1 1) (l :: os) f s) := by
  rw [show (0 : Int64) = lN 0 from rfl, lv64, ← hlen]
  unfold meanN
  rw [h]
  congr 1
  rw [Nat.zero_mul, Nat.zero_mul]
  rfl
theorem mean_eqA0 {S : StX} {u l n : Nat} {os : List Nat} {f s : Int32} (hlen : os.length = n) (_ : ¬ x_tf S u l f = 0) (h : x_tf S u l f = 10) : lN (x_tf S u l f) * lN (x_mean S u os f s) + lN (10 - x_tf S u l f) * (0 + lN (10 ^ n) * lN (x_bf S l)) = lN (meanN (x_tf S u) (x_bf S) (S.1 1) (l :: os) f s) := by
  rw [show (0 : Int64) = lN 0 from rfl, lv64, ← hlen]
  unfold meanN
  rw [h]
  congr 1
  rw [Nat.sub_self, Nat.zero_mul, Nat.zero_mul]
  rfl
theorem mean_eq00 {S : StX} {u l n : Nat} {os : List Nat} {f s : Int32} (hlen : os.length = n) (h : x_tf S u l f = 0) (h2 : x_tf S u l f = 10) : lN (x_tf S u l f) * 0 + lN (10 - x_tf S u l f) * (0 + lN (10 ^ n) * lN (x_bf S l)) = lN (meanN (x_tf S u) (x_bf S) (S.1 1) (l :: os) f s) := by
  rw [h] at h2
  exact absurd h2 (by decide)

theorem getD_mem' {LL : List Nat} {k : Nat} (h : k < LL.length) : LL.getD k 0 ∈ LL := by
  simp [List.getD, List.getElem?_eq_getElem h]
set_option maxHeartbeats 4000000 in
theorem cX_meanFrom {G : Gx} (B : Base G) (a : Nat → Nat) (S : StX) (u : Nat) (hI : IX S) (hu : u < xnp S) (ord : List Nat) (hOn : S.1 14 = nI ord.length) (hOa : OOk ord (xar S 12)) (hO5 : ∀ x, x ∈ ord → x < 5) (hOl : ord.length ≤ 5) : ∀ (r k : Nat) (f s : Int32), k + r = ord.length → Cl G yX0_meanFrom cX0_meanFrom 13 (rmD (4 + r)) (wX G a) S [.ref (a 0), .ref (xpa S u), .int (nI k), .int f, .int s] (fun r1 S' => r1 = lN (x_mean S u (ord.drop k) f s) ∧ S' = S) := by
  intro r
  induction r with
  | zero =>
    intro k f s hk
    refine Cl.of B [some (.ref (a 0)), some (.ref (xpa S u)), some (.int (nI k)), some (.int f), some (.int s), none, none, none, none, none, none, none, none] (by decide) rfl (Nat.le_of_ble_eq_true rfl) (fun E C hR => ?_)
    have C : CxOk E RX0 cX0_meanFrom 13 G (rmD 4) := C
    refine r_iload_n (pc := 0) C dX0_meanFrom_0 rfl ?_
    refine r_aload_n (pc := 1) C dX0_meanFrom_1 rfl ?_
    refine X_g14 (pc := 2) C dX0_meanFrom_2 ?_
    refine r_icmp_ne (pc := 5) 10 C dX0_meanFrom_5 (by decide) (fun c5 => ?_) (fun c5 => ?_)
    · exact absurd (by rw [hOn]; exact congrArg nI (by omega)) c5
    · refine r_lconst (pc := 8) 0 C dX0_meanFrom_8 (by decide) ?_
      exact r_lret (pc := 9) C hR dX0_meanFrom_9 (by decide) (by decide) ⟨by rw [x_mean, List.drop_eq_nil_of_le (by omega)]; rfl, rfl⟩
  | succ r ih =>
    intro k f s hk
    refine Cl.of B [some (.ref (a 0)), some (.ref (xpa S u)), some (.int (nI k)), some (.int f), some (.int s), none, none, none, none, none, none, none, none] (by decide) rfl (Nat.le_of_ble_eq_true rfl) (fun E C hR => ?_)
    have C : CxOk E RX0 cX0_meanFrom 13 G (rmD (4 + (r + 1))) := C
    have hk5 := hI.k5 hu
    have ho5 : ord.getD k 0 < 5 := hO5 _ (getD_mem' (by omega))
    have ht10 := x_tf_le S u (ord.getD k 0) f
    have hb5 : x_bf S (ord.getD k 0) ≤ 5 := (hI.blow ho5).2
    have hbl : S.2.2.1 4 (nI (ord.getD k 0)).toNatClampNeg = nI (x_bf S (ord.getD k 0)) := by rw [nI_clamp (by omega)]; exact (hI.blow ho5).1
    have hdl : (ord.drop (k + 1)).length = ord.length - (k + 1) := List.length_drop
    refine r_iload_n (pc := 0) C dX0_meanFrom_0 rfl ?_
    refine r_aload_n (pc := 1) C dX0_meanFrom_1 rfl ?_
    refine X_g14 (pc := 2) C dX0_meanFrom_2 ?_
    refine r_icmp_ne (pc := 5) 10 C dX0_meanFrom_5 (by decide) (fun c5 => ?_) (fun c5 => ?_)
    · skip
      refine r_aload_n (pc := 10) C dX0_meanFrom_10 rfl ?_
      refine X_g12 (pc := 11) C dX0_meanFrom_11 ?_
      refine r_iload_n (pc := 14) C dX0_meanFrom_14 rfl ?_
      refine X_l12 (pc := 15) C dX0_meanFrom_15 (vp_in_nI (by omega) (by decide)) ?_
      rw [show S.2.2.1 12 (nI k).toNatClampNeg = nI (ord.getD k 0) from by rw [nI_clamp (by omega)]; exact hOa k (by omega)]
      refine r_istore (pc := 16) C dX0_meanFrom_16 (by decide) ?_
      refine r_aload_n (pc := 18) C dX0_meanFrom_18 rfl ?_
      refine r_aload_n (pc := 19) C dX0_meanFrom_19 rfl ?_
      refine r_iload (pc := 20) C dX0_meanFrom_20 rfl ?_
      refine r_iload_n (pc := 22) C dX0_meanFrom_22 rfl ?_
      refine X_cQi (pc := 23) C (cX_tenthsBy B a S u _ _ hI hu (vp_in_nI ho5 (by decide))) q527 mX0_tenthsBy rfl dX0_meanFrom_23 (room_ok (by omega) (by decide)) (Nat.le_of_ble_eq_true rfl) ?_
      rw [x_tf_e]
      refine r_istore (pc := 26) C dX0_meanFrom_26 (by decide) ?_
      refine r_lconst (pc := 28) 1 C dX0_meanFrom_28 (by decide) ?_
      refine r_lstore (pc := 29) C dX0_meanFrom_29 (by decide) ?_
      refine r_iload_n (pc := 31) C dX0_meanFrom_31 rfl ?_
      refine r_iconst (pc := 32) (1) C dX0_meanFrom_32 (by decide) ?_
      refine r_iadd (pc := 33) C dX0_meanFrom_33 ?_
      refine r_istore (pc := 34) C dX0_meanFrom_34 (by decide) ?_
      rw [nI_1]
      refine V_cnt (P := fun i => V E 13 0 0 (wX G a S) 36 [some (.ref (a 0)), some (.ref (xpa S u)), some (.int (nI k)), some (.int f), some (.int s), some (.int (nI (ord.getD k 0))), some (.int (nI (x_tf S u (ord.getD k 0) f))), some (.long (lN (10 ^ i))), none, some (.int (nI (k + 1 + i))), none, none, none] []) (ord.length - (k + 1)) (fun i hi K36 => ?_) ?_
      · refine r_iload (pc := 36) C dX0_meanFrom_36 rfl ?_
        refine r_aload_n (pc := 38) C dX0_meanFrom_38 rfl ?_
        refine X_g14 (pc := 39) C dX0_meanFrom_39 ?_
        refine r_icmp_ge (pc := 42) 59 C dX0_meanFrom_42 (by decide) (fun c42 => ?_) (fun c42 => ?_)
        · rw [hOn] at c42
          exact absurd c42 (nI_ge (by omega) (by omega))
        · refine r_lload (pc := 45) C dX0_meanFrom_45 rfl ?_
          refine r_ldc2 (pc := 47) C dX0_meanFrom_47 q374 ?_
          refine r_lmul (pc := 50) C dX0_meanFrom_50 ?_
          rw [show lN (10 ^ i) * 10 = lN (10 ^ (i + 1)) from by rw [show (10 : Int64) = lN 10 from rfl, lN_mul, Nat.pow_succ]]
          refine r_lstore (pc := 51) C dX0_meanFrom_51 (by decide) ?_
          refine r_iinc (pc := 53) _ C dX0_meanFrom_53 rfl (nI_1 _) (by decide) ?_
          refine r_goto (pc := 56) 36 C dX0_meanFrom_56 (by decide) ?_
          exact K36
      · refine r_iload (pc := 36) C dX0_meanFrom_36 rfl ?_
        refine r_aload_n (pc := 38) C dX0_meanFrom_38 rfl ?_
        refine X_g14 (pc := 39) C dX0_meanFrom_39 ?_
        refine r_icmp_ge (pc := 42) 59 C dX0_meanFrom_42 (by decide) (fun c42 => ?_) (fun c42 => ?_)
        · refine r_iload (pc := 59) C dX0_meanFrom_59 rfl ?_
          refine r_if_ne (pc := 61) 68 C dX0_meanFrom_61 (by decide) (fun c61 => ?_) (fun c61 => ?_)
          · have c61 : ¬ x_tf S u (ord.getD k 0) f = 0 := fun e => c61 (by rw [e]; rfl)
            refine r_aload_n (pc := 68) C dX0_meanFrom_68 rfl ?_
            refine r_aload_n (pc := 69) C dX0_meanFrom_69 rfl ?_
            refine r_iload_n (pc := 70) C dX0_meanFrom_70 rfl ?_
            refine r_iconst (pc := 71) (1) C dX0_meanFrom_71 (by decide) ?_
            refine r_iadd (pc := 72) C dX0_meanFrom_72 ?_
            refine r_iload_n (pc := 73) C dX0_meanFrom_73 rfl ?_
            refine r_iload (pc := 74) C dX0_meanFrom_74 rfl ?_
            rw [nI_1]
            refine X_cQl (pc := 76) C (ih (k + 1) _ _ (by omega)) q576 mX0_meanFrom rfl dX0_meanFrom_76 (room_ok (by omega) (by decide)) (Nat.le_of_ble_eq_true rfl) ?_
            refine r_lstore (pc := 79) C dX0_meanFrom_79 (by decide) ?_
            refine r_iload (pc := 81) C dX0_meanFrom_81 rfl ?_
            refine r_bipush (pc := 83) (10) C dX0_meanFrom_83 (by decide) ?_
            refine r_icmp_ne (pc := 85) 92 C dX0_meanFrom_85 (by decide) (fun c85 => ?_) (fun c85 => ?_)
            · have c85 : ¬ x_tf S u (ord.getD k 0) f = 10 := fun e => c85 (by rw [e]; rfl)
              refine r_aload_n (pc := 92) C dX0_meanFrom_92 rfl ?_
              refine r_aload_n (pc := 93) C dX0_meanFrom_93 rfl ?_
              refine r_iload_n (pc := 94) C dX0_meanFrom_94 rfl ?_
              refine r_iconst (pc := 95) (1) C dX0_meanFrom_95 (by decide) ?_
              refine r_iadd (pc := 96) C dX0_meanFrom_96 ?_
              refine r_aload_n (pc := 97) C dX0_meanFrom_97 rfl ?_
              refine r_iload_n (pc := 98) C dX0_meanFrom_98 rfl ?_
              refine r_iload (pc := 99) C dX0_meanFrom_99 rfl ?_
              refine r_aload_n (pc := 101) C dX0_meanFrom_101 rfl ?_
              refine X_g4 (pc := 102) C dX0_meanFrom_102 ?_
              refine r_iload (pc := 105) C dX0_meanFrom_105 rfl ?_
              refine X_l4 (pc := 107) C dX0_meanFrom_107 (vp_in_nI ho5 (by decide)) ?_
              rw [hbl]
              refine r_iadd (pc := 108) C dX0_meanFrom_108 ?_
              rw [nI_1]
              refine X_cQi (pc := 109) C (cX_fondThen B a _ _ _) q545 mX0_fondThen rfl dX0_meanFrom_109 (room_ok (by omega) (by decide)) (Nat.le_of_ble_eq_true rfl) ?_
              refine r_iload (pc := 112) C dX0_meanFrom_112 rfl ?_
              refine r_aload_n (pc := 114) C dX0_meanFrom_114 rfl ?_
              refine X_g4 (pc := 115) C dX0_meanFrom_115 ?_
              refine r_iload (pc := 118) C dX0_meanFrom_118 rfl ?_
              refine X_l4 (pc := 120) C dX0_meanFrom_120 (vp_in_nI ho5 (by decide)) ?_
              rw [hbl]
              refine r_iadd (pc := 121) C dX0_meanFrom_121 ?_
              refine X_cQl (pc := 122) C (ih (k + 1) _ _ (by omega)) q576 mX0_meanFrom rfl dX0_meanFrom_122 (room_ok (by omega) (by decide)) (Nat.le_of_ble_eq_true rfl) ?_
              refine r_lstore (pc := 125) C dX0_meanFrom_125 (by decide) ?_
              refine r_iload (pc := 127) C dX0_meanFrom_127 rfl ?_
              refine r_i2l (pc := 129) C dX0_meanFrom_129 ?_
              rw [nI_l (by omega)]
              refine r_lload (pc := 130) C dX0_meanFrom_130 rfl ?_
              refine r_lmul (pc := 132) C dX0_meanFrom_132 ?_
              refine r_bipush (pc := 133) (10) C dX0_meanFrom_133 (by decide) ?_
              refine r_iload (pc := 135) C dX0_meanFrom_135 rfl ?_
              refine r_isub (pc := 137) C dX0_meanFrom_137 ?_
              refine r_i2l (pc := 138) C dX0_meanFrom_138 ?_
              rw [show (10 : Int32) - nI (x_tf S u (ord.getD k 0) f) = nI (10 - x_tf S u (ord.getD k 0) f) from pk_sub (a := 10) (by omega), nI_l (by omega)]
              refine r_lload (pc := 139) C dX0_meanFrom_139 rfl ?_
              refine r_lload (pc := 141) C dX0_meanFrom_141 rfl ?_
              refine r_aload_n (pc := 143) C dX0_meanFrom_143 rfl ?_
              refine X_g4 (pc := 144) C dX0_meanFrom_144 ?_
              refine r_iload (pc := 147) C dX0_meanFrom_147 rfl ?_
              refine X_l4 (pc := 149) C dX0_meanFrom_149 (vp_in_nI ho5 (by decide)) ?_
              refine r_i2l (pc := 150) C dX0_meanFrom_150 ?_
              rw [hbl, nI_l (by omega)]
              refine r_lmul (pc := 151) C dX0_meanFrom_151 ?_
              refine r_ladd (pc := 152) C dX0_meanFrom_152 ?_
              refine r_lmul (pc := 153) C dX0_meanFrom_153 ?_
              refine r_ladd (pc := 154) C dX0_meanFrom_154 ?_
              exact r_lret (pc := 155) C hR dX0_meanFrom_155 (Nat.zero_le _) (Nat.zero_le _) ⟨(by rw [x_mean, drop_cons (show k < ord.length by omega)]; exact mean_eqAB (hlen := hdl) c61 c85), rfl⟩
            · have c85 : x_tf S u (ord.getD k 0) f = 10 := (nI_eq (b := 10) (by omega) (by decide)).mp c85
              refine r_lconst (pc := 88) 0 C dX0_meanFrom_88 (by decide) ?_
              refine r_goto (pc := 89) 125 C dX0_meanFrom_89 (by decide) ?_
              refine r_lstore (pc := 125) C dX0_meanFrom_125 (by decide) ?_
              refine r_iload (pc := 127) C dX0_meanFrom_127 rfl ?_
              refine r_i2l (pc := 129) C dX0_meanFrom_129 ?_
              rw [nI_l (by omega)]
              refine r_lload (pc := 130) C dX0_meanFrom_130 rfl ?_
              refine r_lmul (pc := 132) C dX0_meanFrom_132 ?_
              refine r_bipush (pc := 133) (10) C dX0_meanFrom_133 (by decide) ?_
              refine r_iload (pc := 135) C dX0_meanFrom_135 rfl ?_
              refine r_isub (pc := 137) C dX0_meanFrom_137 ?_
              refine r_i2l (pc := 138) C dX0_meanFrom_138 ?_
              rw [show (10 : Int32) - nI (x_tf S u (ord.getD k 0) f) = nI (10 - x_tf S u (ord.getD k 0) f) from pk_sub (a := 10) (by omega), nI_l (by omega)]
              refine r_lload (pc := 139) C dX0_meanFrom_139 rfl ?_
              refine r_lload (pc := 141) C dX0_meanFrom_141 rfl ?_
              refine r_aload_n (pc := 143) C dX0_meanFrom_143 rfl ?_
              refine X_g4 (pc := 144) C dX0_meanFrom_144 ?_
              refine r_iload (pc := 147) C dX0_meanFrom_147 rfl ?_
              refine X_l4 (pc := 149) C dX0_meanFrom_149 (vp_in_nI ho5 (by decide)) ?_
              refine r_i2l (pc := 150) C dX0_meanFrom_150 ?_
              rw [hbl, nI_l (by omega)]
              refine r_lmul (pc := 151) C dX0_meanFrom_151 ?_
              refine r_ladd (pc := 152) C dX0_meanFrom_152 ?_
              refine r_lmul (pc := 153) C dX0_meanFrom_153 ?_
              refine r_ladd (pc := 154) C dX0_meanFrom_154 ?_
              exact r_lret (pc := 155) C hR dX0_meanFrom_155 (Nat.zero_le _) (Nat.zero_le _) ⟨(by rw [x_mean, drop_cons (show k < ord.length by omega)]; exact mean_eqA0 (hlen := hdl) c61 c85), rfl⟩
          · have c61 : x_tf S u (ord.getD k 0) f = 0 := (nI_eq (b := 0) (by omega) (by decide)).mp c61
            refine r_lconst (pc := 64) 0 C dX0_meanFrom_64 (by decide) ?_
            refine r_goto (pc := 65) 79 C dX0_meanFrom_65 (by decide) ?_
            refine r_lstore (pc := 79) C dX0_meanFrom_79 (by decide) ?_
            refine r_iload (pc := 81) C dX0_meanFrom_81 rfl ?_
            refine r_bipush (pc := 83) (10) C dX0_meanFrom_83 (by decide) ?_
            refine r_icmp_ne (pc := 85) 92 C dX0_meanFrom_85 (by decide) (fun c85 => ?_) (fun c85 => ?_)
            · have c85 : ¬ x_tf S u (ord.getD k 0) f = 10 := fun e => c85 (by rw [e]; rfl)
              refine r_aload_n (pc := 92) C dX0_meanFrom_92 rfl ?_
              refine r_aload_n (pc := 93) C dX0_meanFrom_93 rfl ?_
              refine r_iload_n (pc := 94) C dX0_meanFrom_94 rfl ?_
              refine r_iconst (pc := 95) (1) C dX0_meanFrom_95 (by decide) ?_
              refine r_iadd (pc := 96) C dX0_meanFrom_96 ?_
              refine r_aload_n (pc := 97) C dX0_meanFrom_97 rfl ?_
              refine r_iload_n (pc := 98) C dX0_meanFrom_98 rfl ?_
              refine r_iload (pc := 99) C dX0_meanFrom_99 rfl ?_
              refine r_aload_n (pc := 101) C dX0_meanFrom_101 rfl ?_
              refine X_g4 (pc := 102) C dX0_meanFrom_102 ?_
              refine r_iload (pc := 105) C dX0_meanFrom_105 rfl ?_
              refine X_l4 (pc := 107) C dX0_meanFrom_107 (vp_in_nI ho5 (by decide)) ?_
              rw [hbl]
              refine r_iadd (pc := 108) C dX0_meanFrom_108 ?_
              rw [nI_1]
              refine X_cQi (pc := 109) C (cX_fondThen B a _ _ _) q545 mX0_fondThen rfl dX0_meanFrom_109 (room_ok (by omega) (by decide)) (Nat.le_of_ble_eq_true rfl) ?_
              refine r_iload (pc := 112) C dX0_meanFrom_112 rfl ?_
              refine r_aload_n (pc := 114) C dX0_meanFrom_114 rfl ?_
              refine X_g4 (pc := 115) C dX0_meanFrom_115 ?_
              refine r_iload (pc := 118) C dX0_meanFrom_118 rfl ?_
              refine X_l4 (pc := 120) C dX0_meanFrom_120 (vp_in_nI ho5 (by decide)) ?_
              rw [hbl]
              refine r_iadd (pc := 121) C dX0_meanFrom_121 ?_
              refine X_cQl (pc := 122) C (ih (k + 1) _ _ (by omega)) q576 mX0_meanFrom rfl dX0_meanFrom_122 (room_ok (by omega) (by decide)) (Nat.le_of_ble_eq_true rfl) ?_
              refine r_lstore (pc := 125) C dX0_meanFrom_125 (by decide) ?_
              refine r_iload (pc := 127) C dX0_meanFrom_127 rfl ?_
              refine r_i2l (pc := 129) C dX0_meanFrom_129 ?_
              rw [nI_l (by omega)]
              refine r_lload (pc := 130) C dX0_meanFrom_130 rfl ?_
              refine r_lmul (pc := 132) C dX0_meanFrom_132 ?_
              refine r_bipush (pc := 133) (10) C dX0_meanFrom_133 (by decide) ?_
              refine r_iload (pc := 135) C dX0_meanFrom_135 rfl ?_
              refine r_isub (pc := 137) C dX0_meanFrom_137 ?_
              refine r_i2l (pc := 138) C dX0_meanFrom_138 ?_
              rw [show (10 : Int32) - nI (x_tf S u (ord.getD k 0) f) = nI (10 - x_tf S u (ord.getD k 0) f) from pk_sub (a := 10) (by omega), nI_l (by omega)]
              refine r_lload (pc := 139) C dX0_meanFrom_139 rfl ?_
              refine r_lload (pc := 141) C dX0_meanFrom_141 rfl ?_
              refine r_aload_n (pc := 143) C dX0_meanFrom_143 rfl ?_
              refine X_g4 (pc := 144) C dX0_meanFrom_144 ?_
              refine r_iload (pc := 147) C dX0_meanFrom_147 rfl ?_
              refine X_l4 (pc := 149) C dX0_meanFrom_149 (vp_in_nI ho5 (by decide)) ?_
              refine r_i2l (pc := 150) C dX0_meanFrom_150 ?_
              rw [hbl, nI_l (by omega)]
              refine r_lmul (pc := 151) C dX0_meanFrom_151 ?_
              refine r_ladd (pc := 152) C dX0_meanFrom_152 ?_
              refine r_lmul (pc := 153) C dX0_meanFrom_153 ?_
              refine r_ladd (pc := 154) C dX0_meanFrom_154 ?_
              exact r_lret (pc := 155) C hR dX0_meanFrom_155 (Nat.zero_le _) (Nat.zero_le _) ⟨(by rw [x_mean, drop_cons (show k < ord.length by omega)]; exact mean_eq0B (hlen := hdl) c61 c85), rfl⟩
            · have c85 : x_tf S u (ord.getD k 0) f = 10 := (nI_eq (b := 10) (by omega) (by decide)).mp c85
              refine r_lconst (pc := 88) 0 C dX0_meanFrom_88 (by decide) ?_
              refine r_goto (pc := 89) 125 C dX0_meanFrom_89 (by decide) ?_
              refine r_lstore (pc := 125) C dX0_meanFrom_125 (by decide) ?_
              refine r_iload (pc := 127) C dX0_meanFrom_127 rfl ?_
              refine r_i2l (pc := 129) C dX0_meanFrom_129 ?_
              rw [nI_l (by omega)]
              refine r_lload (pc := 130) C dX0_meanFrom_130 rfl ?_
              refine r_lmul (pc := 132) C dX0_meanFrom_132 ?_
              refine r_bipush (pc := 133) (10) C dX0_meanFrom_133 (by decide) ?_
              refine r_iload (pc := 135) C dX0_meanFrom_135 rfl ?_
              refine r_isub (pc := 137) C dX0_meanFrom_137 ?_
              refine r_i2l (pc := 138) C dX0_meanFrom_138 ?_
              rw [show (10 : Int32) - nI (x_tf S u (ord.getD k 0) f) = nI (10 - x_tf S u (ord.getD k 0) f) from pk_sub (a := 10) (by omega), nI_l (by omega)]
              refine r_lload (pc := 139) C dX0_meanFrom_139 rfl ?_
              refine r_lload (pc := 141) C dX0_meanFrom_141 rfl ?_
              refine r_aload_n (pc := 143) C dX0_meanFrom_143 rfl ?_
              refine X_g4 (pc := 144) C dX0_meanFrom_144 ?_
              refine r_iload (pc := 147) C dX0_meanFrom_147 rfl ?_
              refine X_l4 (pc := 149) C dX0_meanFrom_149 (vp_in_nI ho5 (by decide)) ?_
              refine r_i2l (pc := 150) C dX0_meanFrom_150 ?_
              rw [hbl, nI_l (by omega)]
              refine r_lmul (pc := 151) C dX0_meanFrom_151 ?_
              refine r_ladd (pc := 152) C dX0_meanFrom_152 ?_
              refine r_lmul (pc := 153) C dX0_meanFrom_153 ?_
              refine r_ladd (pc := 154) C dX0_meanFrom_154 ?_
              exact r_lret (pc := 155) C hR dX0_meanFrom_155 (Nat.zero_le _) (Nat.zero_le _) ⟨(by rw [x_mean, drop_cons (show k < ord.length by omega)]; exact mean_eq00 (hlen := hdl) c61 c85), rfl⟩
        · exact absurd (by rw [hOn]; exact nI_le (by omega) (by omega)) c42
    · exact absurd c5 (by rw [hOn]; exact fun e => absurd ((nI_eq (by omega) (by omega)).mp e) (by omega))
