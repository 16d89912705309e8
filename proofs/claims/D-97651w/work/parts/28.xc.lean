
set_option maxRecDepth 100000
theorem nf_keep {α β : Type} (g : α → β) (f : Nat → α → α) (h : ∀ i z, g (f i z) = g z) (n : Nat) (z : α) : g (nf f n z) = g z := by
  induction n with
  | zero => rfl
  | succ n ih => exact (h n _).trans ih
theorem fitsb {x : Int32} (h : x = 0 ∨ x = 1) : fits .boolean (.int x) = true := by
  rcases h with rfl | rfl <;> decide
def x_im0 (S : StX) : StX := setXa (setXa (setXa (setXa (setXa S 26 (xar S 8)) 27 (xar S 5)) 28 (xar S 18)) 29 (xar S 19)) 30 (xar S 20)
def x_imf (i : Nat) (Z : StX) : StX := setXp (setXp Z i 4 (xpf Z i 2)) i 5 (xpf (setXp Z i 4 (xpf Z i 2)) i 3)
def x_imN (Z : StX) : StX := setXi (setXi (setXi Z 31 (Z.1 21)) 32 (Z.1 7)) 33 (Z.1 2)
def x_im (S : StX) : StX := x_imN (nf x_imf (S.1 7).toNatClampNeg (x_im0 S))
def x_image (S : StX) : Int32 × StX := if x_isThere S = 0 then (-103, S) else (x_stripesAll (x_im S), x_im S)
def x_re0 (S : StX) : StX := setXi (setXi (setXa (setXa (setXa (setXa (setXa S 8 (xar S 26)) 5 (xar S 27)) 18 (xar S 28)) 19 (xar S 29)) 20 (xar S 30)) 21 (S.1 31)) 7 (S.1 32)
def x_ref (i : Nat) (Z : StX) : StX := setXp (setXp Z i 2 (xpf Z i 4)) i 3 (xpf (setXp Z i 2 (xpf Z i 4)) i 5)
def x_re (S : StX) : StX := nf x_ref (S.1 32).toNatClampNeg (x_re0 S)
def x_restore (S : StX) : Int32 × StX := if S.1 33 = S.1 2 then (x_stripesAll (x_re S), x_re S) else (-103, S)
def x_sb0 (S : StX) : StX := setXa (setXa S 23 (xar S 8)) 24 (xar S 5)
def x_sb1 (i : Nat) (Z : StX) : StX := setXa Z 25 (upd (xar Z 25) (nI i).toNatClampNeg (xpf Z i 3))
def x_sbA (S : StX) : StX := nf x_sb1 (S.1 7).toNatClampNeg (x_sb0 S)
def x_sbB (S : StX) (seed : Int32) : StX := setXi (x_sbA S) 22 seed
def x_sb2 (m : Nat) (k : Nat) (Z : StX) : StX := x_schoolOf Z (k % m)
def x_sbC (S : StX) (t seed : Int32) : StX := nf (x_sb2 (S.1 7).toNatClampNeg) (t * S.1 7).toNatClampNeg (x_sbB S seed)
def x_sb3 (i : Nat) (Z : StX) : StX := setXp Z i 3 (xar Z 25 (nI i).toNatClampNeg)
def x_sbD (S : StX) (t seed : Int32) : StX := nf x_sb3 (S.1 7).toNatClampNeg (setXa (setXa (x_sbC S t seed) 8 (xar (x_sbC S t seed) 23)) 5 (xar (x_sbC S t seed) 24))
def x_schoolsBy (S : StX) (t seed w : Int32) : Int32 := if w = 0 then x_stripesAll (x_sbC S t seed) - x_stripesAll (x_sbA S) else if w = 1 then x_learntAll (x_sbC S t seed) else (x_sbD S t seed).1 22
def x_schools (S : StX) (t seed w : Int32) : Int32 × StX := if jin t 1 20 = 0 then (-102, S) else if seed < 0 then (-102, S) else if jin w 0 2 = 0 then (-102, S) else if S.1 7 ≤ 0 then (-103, S) else (x_schoolsBy S t seed w, x_sbD S t seed)
theorem t_rg {t : Int32} (h : ¬ jin t 1 20 = 0) : Rg t 20 ∧ 1 ≤ t.toNatClampNeg := by
  obtain ⟨h1, h2⟩ := jin_ne0.mp h
  obtain ⟨j, hj, rfl⟩ := nI_of2 (x := t) (M := 20) (n := 20) rfl (Int32.not_lt.mpr (Int32.le_trans (by decide) h1)) h2
  rw [nI_clamp (by omega)]
  exact ⟨Rg.of hj (by decide), (nI_leI (a := 1) (by decide) (by omega)).mp h1⟩
theorem tm_rg {t m : Int32} (ht : Rg t 20) (hm : Rg m 3) : Rg (t * m) 60 ∧ (t * m).toNatClampNeg = t.toNatClampNeg * m.toNatClampNeg := by
  rw [ht.1, hm.1, pk_mul]
  have h1 := ht.2
  have h2 := hm.2
  generalize t.toNatClampNeg = x at h1
  generalize m.toNatClampNeg = y at h2
  have h3 : x * y ≤ 20 * 3 := Nat.mul_le_mul h1 h2
  rw [nI_clamp (by omega), nI_clamp (by omega), nI_clamp (by omega)]
  exact ⟨Rg.of (by omega) (by decide), rfl⟩
/-- a set of princes and of what is drawn, kept in order -/
theorem IX_same {S Z : StX} (h : IX S) (h1 : ∀ f, f = 0 ∨ f = 7 ∨ f = 10 ∨ f = 21 ∨ f = 31 ∨ f = 32 → Z.1 f = S.1 f) (h2 : Z.2.2.2 = S.2.2.2) (h3 : ∀ f, f = 3 ∨ f = 4 ∨ f = 8 ∨ f = 26 ∨ f = 19 ∨ f = 29 ∨ f = 20 ∨ f = 30 → xar Z f = xar S f) : IX Z := by
  unfold IX xnp xpk xpf
  rw [h2, h1 0 (by simp), h1 7 (by simp), h1 10 (by simp), h1 21 (by simp), h1 31 (by simp), h1 32 (by simp), h3 3 (by simp), h3 4 (by simp), h3 8 (by simp), h3 26 (by simp), h3 19 (by simp), h3 29 (by simp), h3 20 (by simp), h3 30 (by simp)]
  exact h
theorem IX_sbA {S : StX} (h : IX S) : IX (x_sbA S) := by
  refine IX_same h (fun f _ => ?_) ?_ (fun f hf => ?_)
  · exact nf_keep (fun Z : StX => Z.1 f) x_sb1 (fun _ _ => rfl) _ _
  · exact nf_keep (fun Z : StX => Z.2.2.2) x_sb1 (fun _ _ => rfl) _ _
  · refine (nf_keep (fun Z : StX => xar Z f) x_sb1 (fun i Z => ?_) _ _).trans ?_
    · show va_up Z.2.2.1 25 _ f = Z.2.2.1 f
      unfold va_up
      rw [if_neg (by omega)]
    · show va_up (va_up S.2.2.1 23 _) 24 _ f = S.2.2.1 f
      unfold va_up
      rw [if_neg (by omega), if_neg (by omega)]
theorem SoI.sch {S Z : StX} (h : SoI S Z) {u : Nat} (hu : u < xnp S) : SoI S (x_schoolOf Z u) := h.nf hu _ h.1.les.2
theorem SoI.sb2 {S Z : StX} (h : SoI S Z) {m : Nat} (hm : 0 < m) (hn : m ≤ xnp S) : ∀ k, SoI S (_root_.Jvm.Pilot.CBeatenInsteadLaw_law_r8869_82264a.nf (x_sb2 m) k Z) := by
  intro k
  induction k with
  | zero => exact h
  | succ k ih => exact ih.sch (Nat.lt_of_lt_of_le (Nat.mod_lt k hm) hn)

set_option maxHeartbeats 4000000 in
theorem cX_image {G : Gx} (B : Base G) (a : Nat → Nat) (S : StX) (hI : IX S) : Ci G yX0_image cX0_image 2 .int (rmD 1) (wX G a) S [.ref (a 0)] (fun r S' => r = (x_image S).1 ∧ S' = (x_image S).2) := by
  refine Ci.of B [some (.ref (a 0)), none] (by decide) rfl (Nat.le_of_ble_eq_true rfl) (fun E C hR => ?_)
  have C : CxOk E RX0 cX0_image 2 G (rmD 1) := C
  refine r_aload_n (pc := 0) C dX0_image_0 rfl ?_
  refine X_cQi (pc := 1) C (cX_isThere B a _) q261 mX0_isThere rfl dX0_image_1 (by decide) (Nat.le_of_ble_eq_true rfl) ?_
  refine r_if_ne (pc := 4) 10 C dX0_image_4 (by decide) (fun c4 => ?_) (fun c4 => ?_)
  · refine r_aload_n (pc := 10) C dX0_image_10 rfl ?_
    refine X_g8 (pc := 11) C dX0_image_11 ?_
    refine r_iconst (pc := 14) (0) C dX0_image_14 (by decide) ?_
    refine r_aload_n (pc := 15) C dX0_image_15 rfl ?_
    refine X_g26 (pc := 16) C dX0_image_16 ?_
    refine r_iconst (pc := 19) (0) C dX0_image_19 (by decide) ?_
    refine r_aload_n (pc := 20) C dX0_image_20 rfl ?_
    refine X_g8 (pc := 21) C dX0_image_21 ?_
    refine X_n8 (pc := 24) C dX0_image_24 ?_
    refine X_c8_26 (pc := 25) C dX0_image_25 (by decide) (Nat.le_of_ble_eq_true rfl) ?_
    refine r_aload_n (pc := 28) C dX0_image_28 rfl ?_
    refine X_g5 (pc := 29) C dX0_image_29 ?_
    refine r_iconst (pc := 32) (0) C dX0_image_32 (by decide) ?_
    refine r_aload_n (pc := 33) C dX0_image_33 rfl ?_
    refine X_g27 (pc := 34) C dX0_image_34 ?_
    refine r_iconst (pc := 37) (0) C dX0_image_37 (by decide) ?_
    refine r_iconst (pc := 38) (3) C dX0_image_38 (by decide) ?_
    refine X_c5_27 (pc := 39) C dX0_image_39 (by decide) (Nat.le_of_ble_eq_true rfl) ?_
    refine r_aload_n (pc := 42) C dX0_image_42 rfl ?_
    refine X_g18 (pc := 43) C dX0_image_43 ?_
    refine r_iconst (pc := 46) (0) C dX0_image_46 (by decide) ?_
    refine r_aload_n (pc := 47) C dX0_image_47 rfl ?_
    refine X_g28 (pc := 48) C dX0_image_48 ?_
    refine r_iconst (pc := 51) (0) C dX0_image_51 (by decide) ?_
    refine r_bipush (pc := 52) (6) C dX0_image_52 (by decide) ?_
    refine X_c18_28 (pc := 54) C dX0_image_54 (by decide) (Nat.le_of_ble_eq_true rfl) ?_
    refine r_aload_n (pc := 57) C dX0_image_57 rfl ?_
    refine X_g19 (pc := 58) C dX0_image_58 ?_
    refine r_iconst (pc := 61) (0) C dX0_image_61 (by decide) ?_
    refine r_aload_n (pc := 62) C dX0_image_62 rfl ?_
    refine X_g29 (pc := 63) C dX0_image_63 ?_
    refine r_iconst (pc := 66) (0) C dX0_image_66 (by decide) ?_
    refine r_bipush (pc := 67) (6) C dX0_image_67 (by decide) ?_
    refine X_c19_29 (pc := 69) C dX0_image_69 (by decide) (Nat.le_of_ble_eq_true rfl) ?_
    refine r_aload_n (pc := 72) C dX0_image_72 rfl ?_
    refine X_g20 (pc := 73) C dX0_image_73 ?_
    refine r_iconst (pc := 76) (0) C dX0_image_76 (by decide) ?_
    refine r_aload_n (pc := 77) C dX0_image_77 rfl ?_
    refine X_g30 (pc := 78) C dX0_image_78 ?_
    refine r_iconst (pc := 81) (0) C dX0_image_81 (by decide) ?_
    refine r_bipush (pc := 82) (6) C dX0_image_82 (by decide) ?_
    refine X_c20_30 (pc := 84) C dX0_image_84 (fun i hi => fitsb (hI.2.2.2.2.2.2.2.1 i hi).2.2.1) (by decide) (Nat.le_of_ble_eq_true rfl) ?_
    refine r_iconst (pc := 87) (0) C dX0_image_87 (by decide) ?_
    refine r_istore_n (pc := 88) C dX0_image_88 (by decide) ?_
    refine V_for (P := fun i Z => V E 2 0 0 (wX G a Z) 89 [some (.ref (a 0)), some (.int (nI i))] []) x_imf (x_im0 S) (S.1 7).toNatClampNeg (fun i hi K89 => ?_) ?_
    · have hnp : (nf x_imf i (x_im0 S)).2.2.2.1 = S.2.2.2.1 := nf_keep (fun Z : StX => Z.2.2.2.1) x_imf (fun _ _ => rfl) _ _
      have hpk : (nf x_imf i (x_im0 S)).2.2.2.2.2.1 = S.2.2.2.2.2.1 := nf_keep (fun Z : StX => Z.2.2.2.2.2.1) x_imf (fun _ _ => rfl) _ _
      have hg : (nf x_imf i (x_im0 S)).1 7 = S.1 7 := nf_keep (fun Z : StX => Z.1 7) x_imf (fun _ _ => rfl) _ _
      have huS : i < S.2.2.2.1 := Nat.lt_of_lt_of_le hi hI.mnp
      have hk5 : (nf x_imf i (x_im0 S)).2.2.2.2.2.1 i < 5 := by rw [hpk]; exact hI.k5 huS
      have hu : i < (nf x_imf i (x_im0 S)).2.2.2.1 := by rw [hnp]; exact huS
      have hu3 : i < 3 := Nat.lt_of_lt_of_le huS hI.np
      have hv3 : vp_in (nI i) 3 := vp_in_nI hu3 (by decide)
      simp only [nf] at K89
      generalize nf x_imf i (x_im0 S) = Z at K89 hnp hpk hg hk5 hu ⊢
      refine r_iload_n (pc := 89) C dX0_image_89 rfl ?_
      refine r_aload_n (pc := 90) C dX0_image_90 rfl ?_
      refine X_g7 (pc := 91) C dX0_image_91 ?_
      refine r_icmp_ge (pc := 94) 139 C dX0_image_94 (by decide) (fun c94 => ?_) (fun c94 => ?_)
      · rw [hg] at c94
        exact absurd c94 (lp_in hI.many (by decide) hi)
      · refine r_aload_n (pc := 97) C dX0_image_97 rfl ?_
        refine X_g6 (pc := 98) C dX0_image_98 ?_
        refine r_iload_n (pc := 101) C dX0_image_101 rfl ?_
        refine X_l6 (pc := 102) C dX0_image_102 rfl hu hu3 ?_
        refine r_aload_n (pc := 103) C dX0_image_103 rfl ?_
        refine X_g6 (pc := 104) C dX0_image_104 ?_
        refine r_iload_n (pc := 107) C dX0_image_107 rfl ?_
        refine X_l6 (pc := 108) C dX0_image_108 rfl hu hu3 ?_
        refine P_g2 (pc := 109) C dX0_image_109 (by assumption) (by assumption) ?_
        refine P_p4 (pc := 112) C dX0_image_112 (by assumption) (by assumption) ?_
        refine r_aload_n (pc := 115) C dX0_image_115 rfl ?_
        refine X_g6 (pc := 116) C dX0_image_116 ?_
        refine r_iload_n (pc := 119) C dX0_image_119 rfl ?_
        refine X_l6 (pc := 120) C dX0_image_120 rfl hu hu3 ?_
        refine r_aload_n (pc := 121) C dX0_image_121 rfl ?_
        refine X_g6 (pc := 122) C dX0_image_122 ?_
        refine r_iload_n (pc := 125) C dX0_image_125 rfl ?_
        refine X_l6 (pc := 126) C dX0_image_126 rfl hu hu3 ?_
        refine P_g3 (pc := 127) C dX0_image_127 (by assumption) (by assumption) ?_
        refine P_p5 (pc := 130) C dX0_image_130 (by assumption) (by assumption) ?_
        refine r_iinc (pc := 133) _ C dX0_image_133 rfl (nI_1 i) (by decide) ?_
        refine r_goto (pc := 136) 89 C dX0_image_136 (by decide) ?_
        exact K89
    · have hg : (nf x_imf (S.1 7).toNatClampNeg (x_im0 S)).1 7 = S.1 7 := nf_keep (fun Z : StX => Z.1 7) x_imf (fun _ _ => rfl) _ _
      refine r_iload_n (pc := 89) C dX0_image_89 rfl ?_
      refine r_aload_n (pc := 90) C dX0_image_90 rfl ?_
      refine X_g7 (pc := 91) C dX0_image_91 ?_
      refine r_icmp_ge (pc := 94) 139 C dX0_image_94 (by decide) (fun c94 => ?_) (fun c94 => ?_)
      · refine r_aload_n (pc := 139) C dX0_image_139 rfl ?_
        refine r_aload_n (pc := 140) C dX0_image_140 rfl ?_
        refine X_g21 (pc := 141) C dX0_image_141 ?_
        refine X_p31 (pc := 144) C dX0_image_144 ?_
        refine r_aload_n (pc := 147) C dX0_image_147 rfl ?_
        refine r_aload_n (pc := 148) C dX0_image_148 rfl ?_
        refine X_g7 (pc := 149) C dX0_image_149 ?_
        refine X_p32 (pc := 152) C dX0_image_152 ?_
        refine r_aload_n (pc := 155) C dX0_image_155 rfl ?_
        refine r_aload_n (pc := 156) C dX0_image_156 rfl ?_
        refine X_g2 (pc := 157) C dX0_image_157 ?_
        refine X_p33 (pc := 160) C dX0_image_160 ?_
        refine r_aload_n (pc := 163) C dX0_image_163 rfl ?_
        refine X_cQi (pc := 164) C (cX_stripesAll B a _) q644 mX0_stripesAll rfl dX0_image_164 (by decide) (Nat.le_of_ble_eq_true rfl) ?_
        exact r_iret (pc := 167) C hR dX0_image_167 (by decide) (by decide) ⟨by (rw [x_image, if_neg c4] <;> rfl), by (rw [x_image, if_neg c4] <;> rfl)⟩
      · rw [hg] at c94
        exact absurd (lp_out hI.many (by decide)) c94
  · refine r_bipush (pc := 7) (-103) C dX0_image_7 (by decide) ?_
    exact r_iret (pc := 9) C hR dX0_image_9 (by decide) (by decide) ⟨by (rw [x_image, if_pos c4] <;> rfl), by (rw [x_image, if_pos c4] <;> rfl)⟩

set_option maxHeartbeats 4000000 in
theorem cX_restore {G : Gx} (B : Base G) (a : Nat → Nat) (S : StX) (hI : IX S) : Ci G yX0_restore cX0_restore 2 .int (rmD 1) (wX G a) S [.ref (a 0)] (fun r S' => r = (x_restore S).1 ∧ S' = (x_restore S).2) := by
  refine Ci.of B [some (.ref (a 0)), none] (by decide) rfl (Nat.le_of_ble_eq_true rfl) (fun E C hR => ?_)
  have C : CxOk E RX0 cX0_restore 2 G (rmD 1) := C
  refine r_aload_n (pc := 0) C dX0_restore_0 rfl ?_
  refine X_g33 (pc := 1) C dX0_restore_1 ?_
  refine r_aload_n (pc := 4) C dX0_restore_4 rfl ?_
  refine X_g2 (pc := 5) C dX0_restore_5 ?_
  refine r_icmp_eq (pc := 8) 14 C dX0_restore_8 (by decide) (fun c8 => ?_) (fun c8 => ?_)
  · refine r_aload_n (pc := 14) C dX0_restore_14 rfl ?_
    refine X_g26 (pc := 15) C dX0_restore_15 ?_
    refine r_iconst (pc := 18) (0) C dX0_restore_18 (by decide) ?_
    refine r_aload_n (pc := 19) C dX0_restore_19 rfl ?_
    refine X_g8 (pc := 20) C dX0_restore_20 ?_
    refine r_iconst (pc := 23) (0) C dX0_restore_23 (by decide) ?_
    refine r_aload_n (pc := 24) C dX0_restore_24 rfl ?_
    refine X_g8 (pc := 25) C dX0_restore_25 ?_
    refine X_n8 (pc := 28) C dX0_restore_28 ?_
    refine X_c26_8 (pc := 29) C dX0_restore_29 (by decide) (Nat.le_of_ble_eq_true rfl) ?_
    refine r_aload_n (pc := 32) C dX0_restore_32 rfl ?_
    refine X_g27 (pc := 33) C dX0_restore_33 ?_
    refine r_iconst (pc := 36) (0) C dX0_restore_36 (by decide) ?_
    refine r_aload_n (pc := 37) C dX0_restore_37 rfl ?_
    refine X_g5 (pc := 38) C dX0_restore_38 ?_
    refine r_iconst (pc := 41) (0) C dX0_restore_41 (by decide) ?_
    refine r_iconst (pc := 42) (3) C dX0_restore_42 (by decide) ?_
    refine X_c27_5 (pc := 43) C dX0_restore_43 (by decide) (Nat.le_of_ble_eq_true rfl) ?_
    refine r_aload_n (pc := 46) C dX0_restore_46 rfl ?_
    refine X_g28 (pc := 47) C dX0_restore_47 ?_
    refine r_iconst (pc := 50) (0) C dX0_restore_50 (by decide) ?_
    refine r_aload_n (pc := 51) C dX0_restore_51 rfl ?_
    refine X_g18 (pc := 52) C dX0_restore_52 ?_
    refine r_iconst (pc := 55) (0) C dX0_restore_55 (by decide) ?_
    refine r_bipush (pc := 56) (6) C dX0_restore_56 (by decide) ?_
    refine X_c28_18 (pc := 58) C dX0_restore_58 (by decide) (Nat.le_of_ble_eq_true rfl) ?_
    refine r_aload_n (pc := 61) C dX0_restore_61 rfl ?_
    refine X_g29 (pc := 62) C dX0_restore_62 ?_
    refine r_iconst (pc := 65) (0) C dX0_restore_65 (by decide) ?_
    refine r_aload_n (pc := 66) C dX0_restore_66 rfl ?_
    refine X_g19 (pc := 67) C dX0_restore_67 ?_
    refine r_iconst (pc := 70) (0) C dX0_restore_70 (by decide) ?_
    refine r_bipush (pc := 71) (6) C dX0_restore_71 (by decide) ?_
    refine X_c29_19 (pc := 73) C dX0_restore_73 (by decide) (Nat.le_of_ble_eq_true rfl) ?_
    refine r_aload_n (pc := 76) C dX0_restore_76 rfl ?_
    refine X_g30 (pc := 77) C dX0_restore_77 ?_
    refine r_iconst (pc := 80) (0) C dX0_restore_80 (by decide) ?_
    refine r_aload_n (pc := 81) C dX0_restore_81 rfl ?_
    refine X_g20 (pc := 82) C dX0_restore_82 ?_
    refine r_iconst (pc := 85) (0) C dX0_restore_85 (by decide) ?_
    refine r_bipush (pc := 86) (6) C dX0_restore_86 (by decide) ?_
    refine X_c30_20 (pc := 88) C dX0_restore_88 (fun i hi => fitsb (hI.2.2.2.2.2.2.2.1 i hi).2.2.2) (by decide) (Nat.le_of_ble_eq_true rfl) ?_
    refine r_aload_n (pc := 91) C dX0_restore_91 rfl ?_
    refine r_aload_n (pc := 92) C dX0_restore_92 rfl ?_
    refine X_g31 (pc := 93) C dX0_restore_93 ?_
    refine X_p21 (pc := 96) C dX0_restore_96 ?_
    refine r_aload_n (pc := 99) C dX0_restore_99 rfl ?_
    refine r_aload_n (pc := 100) C dX0_restore_100 rfl ?_
    refine X_g32 (pc := 101) C dX0_restore_101 ?_
    refine X_p7 (pc := 104) C dX0_restore_104 ?_
    refine r_iconst (pc := 107) (0) C dX0_restore_107 (by decide) ?_
    refine r_istore_n (pc := 108) C dX0_restore_108 (by decide) ?_
    refine V_for (P := fun i Z => V E 2 0 0 (wX G a Z) 109 [some (.ref (a 0)), some (.int (nI i))] []) x_ref (x_re0 S) (S.1 32).toNatClampNeg (fun i hi K109 => ?_) ?_
    · have hnp : (nf x_ref i (x_re0 S)).2.2.2.1 = S.2.2.2.1 := nf_keep (fun Z : StX => Z.2.2.2.1) x_ref (fun _ _ => rfl) _ _
      have hpk : (nf x_ref i (x_re0 S)).2.2.2.2.2.1 = S.2.2.2.2.2.1 := nf_keep (fun Z : StX => Z.2.2.2.2.2.1) x_ref (fun _ _ => rfl) _ _
      have hg : (nf x_ref i (x_re0 S)).1 7 = S.1 32 := nf_keep (fun Z : StX => Z.1 7) x_ref (fun _ _ => rfl) _ _
      have huS : i < S.2.2.2.1 := Nat.lt_of_lt_of_le hi hI.2.2.2.2.2.2.2.2.2.2
      have hk5 : (nf x_ref i (x_re0 S)).2.2.2.2.2.1 i < 5 := by rw [hpk]; exact hI.k5 huS
      have hu : i < (nf x_ref i (x_re0 S)).2.2.2.1 := by rw [hnp]; exact huS
      have hu3 : i < 3 := Nat.lt_of_lt_of_le huS hI.np
      have hv3 : vp_in (nI i) 3 := vp_in_nI hu3 (by decide)
      simp only [nf] at K109
      generalize nf x_ref i (x_re0 S) = Z at K109 hnp hpk hg hk5 hu ⊢
      refine r_iload_n (pc := 109) C dX0_restore_109 rfl ?_
      refine r_aload_n (pc := 110) C dX0_restore_110 rfl ?_
      refine X_g7 (pc := 111) C dX0_restore_111 ?_
      refine r_icmp_ge (pc := 114) 159 C dX0_restore_114 (by decide) (fun c114 => ?_) (fun c114 => ?_)
      · rw [hg] at c114
        exact absurd c114 (lp_in hI.2.2.2.2.2.2.2.2.2.1 (by decide) hi)
      · refine r_aload_n (pc := 117) C dX0_restore_117 rfl ?_
        refine X_g6 (pc := 118) C dX0_restore_118 ?_
        refine r_iload_n (pc := 121) C dX0_restore_121 rfl ?_
        refine X_l6 (pc := 122) C dX0_restore_122 rfl hu hu3 ?_
        refine r_aload_n (pc := 123) C dX0_restore_123 rfl ?_
        refine X_g6 (pc := 124) C dX0_restore_124 ?_
        refine r_iload_n (pc := 127) C dX0_restore_127 rfl ?_
        refine X_l6 (pc := 128) C dX0_restore_128 rfl hu hu3 ?_
        refine P_g4 (pc := 129) C dX0_restore_129 (by assumption) (by assumption) ?_
        refine P_p2 (pc := 132) C dX0_restore_132 (by assumption) (by assumption) ?_
        refine r_aload_n (pc := 135) C dX0_restore_135 rfl ?_
        refine X_g6 (pc := 136) C dX0_restore_136 ?_
        refine r_iload_n (pc := 139) C dX0_restore_139 rfl ?_
        refine X_l6 (pc := 140) C dX0_restore_140 rfl hu hu3 ?_
        refine r_aload_n (pc := 141) C dX0_restore_141 rfl ?_
        refine X_g6 (pc := 142) C dX0_restore_142 ?_
        refine r_iload_n (pc := 145) C dX0_restore_145 rfl ?_
        refine X_l6 (pc := 146) C dX0_restore_146 rfl hu hu3 ?_
        refine P_g5 (pc := 147) C dX0_restore_147 (by assumption) (by assumption) ?_
        refine P_p3 (pc := 150) C dX0_restore_150 (by assumption) (by assumption) ?_
        refine r_iinc (pc := 153) _ C dX0_restore_153 rfl (nI_1 i) (by decide) ?_
        refine r_goto (pc := 156) 109 C dX0_restore_156 (by decide) ?_
        exact K109
    · have hg : (nf x_ref (S.1 32).toNatClampNeg (x_re0 S)).1 7 = S.1 32 := nf_keep (fun Z : StX => Z.1 7) x_ref (fun _ _ => rfl) _ _
      refine r_iload_n (pc := 109) C dX0_restore_109 rfl ?_
      refine r_aload_n (pc := 110) C dX0_restore_110 rfl ?_
      refine X_g7 (pc := 111) C dX0_restore_111 ?_
      refine r_icmp_ge (pc := 114) 159 C dX0_restore_114 (by decide) (fun c114 => ?_) (fun c114 => ?_)
      · refine r_aload_n (pc := 159) C dX0_restore_159 rfl ?_
        refine X_cQi (pc := 160) C (cX_stripesAll B a _) q644 mX0_stripesAll rfl dX0_restore_160 (by decide) (Nat.le_of_ble_eq_true rfl) ?_
        exact r_iret (pc := 163) C hR dX0_restore_163 (by decide) (by decide) ⟨by (rw [x_restore, if_pos c8] <;> rfl), by (rw [x_restore, if_pos c8] <;> rfl)⟩
      · rw [hg] at c114
        exact absurd (lp_out hI.2.2.2.2.2.2.2.2.2.1 (by decide)) c114
  · refine r_bipush (pc := 11) (-103) C dX0_restore_11 (by decide) ?_
    exact r_iret (pc := 13) C hR dX0_restore_13 (by decide) (by decide) ⟨by (rw [x_restore, if_neg c8] <;> rfl), by (rw [x_restore, if_neg c8] <;> rfl)⟩

set_option maxHeartbeats 4000000 in
theorem cX_schoolsBy {G : Gx} (B : Base G) (a : Nat → Nat) (S : StX) (t seed w : Int32) (hI : IX S) (ht : Rg t 20) (hm : 0 < (S.1 7).toNatClampNeg) : Ci G yX0_schoolsBy cX0_schoolsBy 8 .int (rmD 6) (wX G a) S [.ref (a 0), .int t, .int seed, .int w] (fun r S' => r = x_schoolsBy S t seed w ∧ S' = x_sbD S t seed) := by
  refine Ci.of B [some (.ref (a 0)), some (.int t), some (.int seed), some (.int w), none, none, none, none] (by decide) rfl (Nat.le_of_ble_eq_true rfl) (fun E C hR => ?_)
  have C : CxOk E RX0 cX0_schoolsBy 8 G (rmD 6) := C
  have hmS := hI.many.2
  have hA : IX (x_sbA S) := IX_sbA hI
  have eA7 : (x_sbA S).1 7 = S.1 7 := nf_keep (fun Z : StX => Z.1 7) x_sb1 (fun _ _ => rfl) _ _
  have eAn : (x_sbA S).2.2.2 = S.2.2.2 := nf_keep (fun Z : StX => Z.2.2.2) x_sb1 (fun _ _ => rfl) _ _
  obtain ⟨hN, hNe⟩ := tm_rg ht hI.many
  have hBI : IX (x_sbB S seed) := hA
  have hBn : (S.1 7).toNatClampNeg ≤ xnp (x_sbB S seed) := by show _ ≤ (x_sbA S).2.2.2.1; rw [eAn]; exact hI.mnp
  have hCk : ∀ k, SoI (x_sbB S seed) (nf (x_sb2 (S.1 7).toNatClampNeg) k (x_sbB S seed)) := (SoI.rf hBI).sb2 hm hBn
  have hC0 : SoI (x_sbB S seed) (x_sbC S t seed) := hCk _
  have hC : IX (x_sbC S t seed) ∧ (x_sbC S t seed).2.2.2.1 = S.2.2.2.1 ∧ (x_sbC S t seed).2.2.2.2.1 = S.2.2.2.2.1 ∧ (x_sbC S t seed).2.2.2.2.2.1 = S.2.2.2.2.2.1 ∧ (∀ f, f = 7 → (x_sbC S t seed).1 f = S.1 f) := ⟨hC0.1, hC0.2.1.trans (congrArg (fun z => z.1) eAn), hC0.2.2.1.trans (congrArg (fun z => z.2.1) eAn), hC0.2.2.2.1.trans (congrArg (fun z => z.2.2.1) eAn), fun f hf => by subst hf; exact (hC0.2.2.2.2 7 (by decide)).trans eA7⟩
  refine r_aload_n (pc := 0) C dX0_schoolsBy_0 rfl ?_
  refine X_g8 (pc := 1) C dX0_schoolsBy_1 ?_
  refine r_iconst (pc := 4) (0) C dX0_schoolsBy_4 (by decide) ?_
  refine r_aload_n (pc := 5) C dX0_schoolsBy_5 rfl ?_
  refine X_g23 (pc := 6) C dX0_schoolsBy_6 ?_
  refine r_iconst (pc := 9) (0) C dX0_schoolsBy_9 (by decide) ?_
  refine r_aload_n (pc := 10) C dX0_schoolsBy_10 rfl ?_
  refine X_g8 (pc := 11) C dX0_schoolsBy_11 ?_
  refine X_n8 (pc := 14) C dX0_schoolsBy_14 ?_
  refine X_c8_23 (pc := 15) C dX0_schoolsBy_15 (by decide) (Nat.le_of_ble_eq_true rfl) ?_
  refine r_aload_n (pc := 18) C dX0_schoolsBy_18 rfl ?_
  refine X_g5 (pc := 19) C dX0_schoolsBy_19 ?_
  refine r_iconst (pc := 22) (0) C dX0_schoolsBy_22 (by decide) ?_
  refine r_aload_n (pc := 23) C dX0_schoolsBy_23 rfl ?_
  refine X_g24 (pc := 24) C dX0_schoolsBy_24 ?_
  refine r_iconst (pc := 27) (0) C dX0_schoolsBy_27 (by decide) ?_
  refine r_iconst (pc := 28) (3) C dX0_schoolsBy_28 (by decide) ?_
  refine X_c5_24 (pc := 29) C dX0_schoolsBy_29 (by decide) (Nat.le_of_ble_eq_true rfl) ?_
  refine r_iconst (pc := 32) (0) C dX0_schoolsBy_32 (by decide) ?_
  refine r_istore (pc := 33) C dX0_schoolsBy_33 (by decide) ?_
  refine V_for (P := fun i Z => V E 8 0 0 (wX G a Z) 35 [some (.ref (a 0)), some (.int t), some (.int seed), some (.int w), some (.int (nI i)), none, none, none] []) x_sb1 (x_sb0 S) (S.1 7).toNatClampNeg (fun i hi K35 => ?_) ?_
  · have hnp : (nf x_sb1 i (x_sb0 S)).2.2.2.1 = S.2.2.2.1 := nf_keep (fun Z : StX => Z.2.2.2.1) x_sb1 (fun _ _ => rfl) _ _
    have hpk : (nf x_sb1 i (x_sb0 S)).2.2.2.2.2.1 = S.2.2.2.2.2.1 := nf_keep (fun Z : StX => Z.2.2.2.2.2.1) x_sb1 (fun _ _ => rfl) _ _
    have hg : (nf x_sb1 i (x_sb0 S)).1 7 = S.1 7 := nf_keep (fun Z : StX => Z.1 7) x_sb1 (fun _ _ => rfl) _ _
    have huS : i < S.2.2.2.1 := Nat.lt_of_lt_of_le hi hI.mnp
    have hk5 : (nf x_sb1 i (x_sb0 S)).2.2.2.2.2.1 i < 5 := by rw [hpk]; exact hI.k5 huS
    have hu : i < (nf x_sb1 i (x_sb0 S)).2.2.2.1 := by rw [hnp]; exact huS
    have hu3 : i < 3 := Nat.lt_of_lt_of_le huS hI.np
    have hv3 : vp_in (nI i) 3 := vp_in_nI hu3 (by decide)
    simp only [nf] at K35
    generalize nf x_sb1 i (x_sb0 S) = Z at K35 hnp hpk hg hk5 hu ⊢
    refine r_iload (pc := 35) C dX0_schoolsBy_35 rfl ?_
    refine r_aload_n (pc := 37) C dX0_schoolsBy_37 rfl ?_
    refine X_g7 (pc := 38) C dX0_schoolsBy_38 ?_
    refine r_icmp_ge (pc := 41) 67 C dX0_schoolsBy_41 (by decide) (fun c41 => ?_) (fun c41 => ?_)
    · rw [hg] at c41
      exact absurd c41 (lp_in hI.many (by decide) hi)
    · refine r_aload_n (pc := 44) C dX0_schoolsBy_44 rfl ?_
      refine X_g25 (pc := 45) C dX0_schoolsBy_45 ?_
      refine r_iload (pc := 48) C dX0_schoolsBy_48 rfl ?_
      refine r_aload_n (pc := 50) C dX0_schoolsBy_50 rfl ?_
      refine X_g6 (pc := 51) C dX0_schoolsBy_51 ?_
      refine r_iload (pc := 54) C dX0_schoolsBy_54 rfl ?_
      refine X_l6 (pc := 56) C dX0_schoolsBy_56 rfl hu hu3 ?_
      refine P_g3 (pc := 57) C dX0_schoolsBy_57 (by assumption) (by assumption) ?_
      refine X_s25 (pc := 60) C dX0_schoolsBy_60 hv3 ?_
      refine r_iinc (pc := 61) _ C dX0_schoolsBy_61 rfl (nI_1 i) (by decide) ?_
      refine r_goto (pc := 64) 35 C dX0_schoolsBy_64 (by decide) ?_
      exact K35
  · have hg : (nf x_sb1 (S.1 7).toNatClampNeg (x_sb0 S)).1 7 = S.1 7 := nf_keep (fun Z : StX => Z.1 7) x_sb1 (fun _ _ => rfl) _ _
    refine r_iload (pc := 35) C dX0_schoolsBy_35 rfl ?_
    refine r_aload_n (pc := 37) C dX0_schoolsBy_37 rfl ?_
    refine X_g7 (pc := 38) C dX0_schoolsBy_38 ?_
    refine r_icmp_ge (pc := 41) 67 C dX0_schoolsBy_41 (by decide) (fun c41 => ?_) (fun c41 => ?_)
    · refine r_aload_n (pc := 67) C dX0_schoolsBy_67 rfl ?_
      refine X_cQi (pc := 68) C (cX_stripesAll B a _) q644 mX0_stripesAll rfl dX0_schoolsBy_68 (by decide) (Nat.le_of_ble_eq_true rfl) ?_
      refine r_istore (pc := 71) C dX0_schoolsBy_71 (by decide) ?_
      refine r_aload_n (pc := 73) C dX0_schoolsBy_73 rfl ?_
      refine r_iload_n (pc := 74) C dX0_schoolsBy_74 rfl ?_
      refine X_p22 (pc := 75) C dX0_schoolsBy_75 ?_
      refine r_iconst (pc := 78) (0) C dX0_schoolsBy_78 (by decide) ?_
      refine r_istore (pc := 79) C dX0_schoolsBy_79 (by decide) ?_
      refine V_for (P := fun k Z => V E 8 0 0 (wX G a Z) 81 [some (.ref (a 0)), some (.int t), some (.int seed), some (.int w), some (.int (x_stripesAll (x_sbA S))), some (.int (nI k)), none, none] []) (x_sb2 (S.1 7).toNatClampNeg) (x_sbB S seed) (t * S.1 7).toNatClampNeg (fun i hi K81 => ?_) ?_
      · obtain ⟨hZ, e1, e2, e3, e4⟩ := hCk i
        have hg : (nf (x_sb2 (S.1 7).toNatClampNeg) i (x_sbB S seed)).1 7 = S.1 7 := (e4 7 (by decide)).trans eA7
        simp only [nf] at K81
        generalize nf (x_sb2 (S.1 7).toNatClampNeg) i (x_sbB S seed) = Z at K81 hZ e1 e2 e3 e4 hg ⊢
        have hu : i % (S.1 7).toNatClampNeg < Z.2.2.2.1 := by rw [e1]; exact Nat.lt_of_lt_of_le (Nat.mod_lt _ hm) hBn
        have hu3 : i % (S.1 7).toNatClampNeg < 3 := Nat.lt_of_lt_of_le (Nat.mod_lt _ hm) hmS
        have hi60 : i < 60 := Nat.lt_of_lt_of_le hi hN.2
        refine r_iload (pc := 81) C dX0_schoolsBy_81 rfl ?_
        refine r_iload_n (pc := 83) C dX0_schoolsBy_83 rfl ?_
        refine r_aload_n (pc := 84) C dX0_schoolsBy_84 rfl ?_
        refine X_g7 (pc := 85) C dX0_schoolsBy_85 ?_
        refine r_imul (pc := 88) C dX0_schoolsBy_88 ?_
        refine r_icmp_ge (pc := 89) 114 C dX0_schoolsBy_89 (by decide) (fun c89 => ?_) (fun c89 => ?_)
        · rw [hg] at c89
          exact absurd c89 (lp_in hN (by decide) hi)
        · refine r_aload_n (pc := 92) C dX0_schoolsBy_92 rfl ?_
          refine r_aload_n (pc := 93) C dX0_schoolsBy_93 rfl ?_
          refine X_g6 (pc := 94) C dX0_schoolsBy_94 ?_
          refine r_iload (pc := 97) C dX0_schoolsBy_97 rfl ?_
          refine r_aload_n (pc := 99) C dX0_schoolsBy_99 rfl ?_
          refine X_g7 (pc := 100) C dX0_schoolsBy_100 ?_
          refine r_irem (pc := 103) C dX0_schoolsBy_103 (by rw [hg]; exact fun e => absurd (by rw [hI.many.1] at e; exact (nI_eq (b := 0) (by omega) (by decide)).mp e) (Nat.ne_of_gt hm)) ?_
          refine X_l6 (pc := 104) C dX0_schoolsBy_104 (by rw [hg, hI.many.1, pk_rem (by omega) hm (by omega), nI_clamp (by omega)]) hu hu3 ?_
          refine X_cQv (pc := 105) C (cX_schoolOf B a Z _ hZ hu) q648 mX0_schoolOf rfl dX0_schoolsBy_105 (by decide) (Nat.le_of_ble_eq_true rfl) ?_
          refine r_iinc (pc := 108) _ C dX0_schoolsBy_108 rfl (nI_1 i) (by decide) ?_
          refine r_goto (pc := 111) 81 C dX0_schoolsBy_111 (by decide) ?_
          exact K81
      · have hg : (nf (x_sb2 (S.1 7).toNatClampNeg) (t * S.1 7).toNatClampNeg (x_sbB S seed)).1 7 = S.1 7 := hC.2.2.2.2 7 rfl
        refine r_iload (pc := 81) C dX0_schoolsBy_81 rfl ?_
        refine r_iload_n (pc := 83) C dX0_schoolsBy_83 rfl ?_
        refine r_aload_n (pc := 84) C dX0_schoolsBy_84 rfl ?_
        refine X_g7 (pc := 85) C dX0_schoolsBy_85 ?_
        refine r_imul (pc := 88) C dX0_schoolsBy_88 ?_
        refine r_icmp_ge (pc := 89) 114 C dX0_schoolsBy_89 (by decide) (fun c89 => ?_) (fun c89 => ?_)
        · refine r_aload_n (pc := 114) C dX0_schoolsBy_114 rfl ?_
          refine X_cQi (pc := 115) C (cX_stripesAll B a _) q644 mX0_stripesAll rfl dX0_schoolsBy_115 (by decide) (Nat.le_of_ble_eq_true rfl) ?_
          refine r_iload (pc := 118) C dX0_schoolsBy_118 rfl ?_
          refine r_isub (pc := 120) C dX0_schoolsBy_120 ?_
          refine r_istore (pc := 121) C dX0_schoolsBy_121 (by decide) ?_
          refine r_aload_n (pc := 123) C dX0_schoolsBy_123 rfl ?_
          refine X_cQi (pc := 124) C (cX_learntAll B a _ hC.1) q660 mX0_learntAll rfl dX0_schoolsBy_124 (by decide) (Nat.le_of_ble_eq_true rfl) ?_
          refine r_istore (pc := 127) C dX0_schoolsBy_127 (by decide) ?_
          refine r_aload_n (pc := 129) C dX0_schoolsBy_129 rfl ?_
          refine X_g23 (pc := 130) C dX0_schoolsBy_130 ?_
          refine r_iconst (pc := 133) (0) C dX0_schoolsBy_133 (by decide) ?_
          refine r_aload_n (pc := 134) C dX0_schoolsBy_134 rfl ?_
          refine X_g8 (pc := 135) C dX0_schoolsBy_135 ?_
          refine r_iconst (pc := 138) (0) C dX0_schoolsBy_138 (by decide) ?_
          refine r_aload_n (pc := 139) C dX0_schoolsBy_139 rfl ?_
          refine X_g8 (pc := 140) C dX0_schoolsBy_140 ?_
          refine X_n8 (pc := 143) C dX0_schoolsBy_143 ?_
          refine X_c23_8 (pc := 144) C dX0_schoolsBy_144 (by decide) (Nat.le_of_ble_eq_true rfl) ?_
          refine r_aload_n (pc := 147) C dX0_schoolsBy_147 rfl ?_
          refine X_g24 (pc := 148) C dX0_schoolsBy_148 ?_
          refine r_iconst (pc := 151) (0) C dX0_schoolsBy_151 (by decide) ?_
          refine r_aload_n (pc := 152) C dX0_schoolsBy_152 rfl ?_
          refine X_g5 (pc := 153) C dX0_schoolsBy_153 ?_
          refine r_iconst (pc := 156) (0) C dX0_schoolsBy_156 (by decide) ?_
          refine r_iconst (pc := 157) (3) C dX0_schoolsBy_157 (by decide) ?_
          refine X_c24_5 (pc := 158) C dX0_schoolsBy_158 (by decide) (Nat.le_of_ble_eq_true rfl) ?_
          refine r_iconst (pc := 161) (0) C dX0_schoolsBy_161 (by decide) ?_
          refine r_istore (pc := 162) C dX0_schoolsBy_162 (by decide) ?_
          refine V_for (P := fun i Z => V E 8 0 0 (wX G a Z) 164 [some (.ref (a 0)), some (.int t), some (.int seed), some (.int w), some (.int (x_stripesAll (x_sbA S))), some (.int (x_stripesAll (x_sbC S t seed) - x_stripesAll (x_sbA S))), some (.int (x_learntAll (x_sbC S t seed))), some (.int (nI i))] []) x_sb3 (setXa (setXa (x_sbC S t seed) 8 (xar (x_sbC S t seed) 23)) 5 (xar (x_sbC S t seed) 24)) (S.1 7).toNatClampNeg (fun i hi K164 => ?_) ?_
          · have hnp : (nf x_sb3 i (setXa (setXa (x_sbC S t seed) 8 (xar (x_sbC S t seed) 23)) 5 (xar (x_sbC S t seed) 24))).2.2.2.1 = S.2.2.2.1 := (nf_keep (fun Z : StX => Z.2.2.2.1) x_sb3 (fun _ _ => rfl) _ _).trans hC.2.1
            have hpk : (nf x_sb3 i (setXa (setXa (x_sbC S t seed) 8 (xar (x_sbC S t seed) 23)) 5 (xar (x_sbC S t seed) 24))).2.2.2.2.2.1 = S.2.2.2.2.2.1 := (nf_keep (fun Z : StX => Z.2.2.2.2.2.1) x_sb3 (fun _ _ => rfl) _ _).trans hC.2.2.2.1
            have hg : (nf x_sb3 i (setXa (setXa (x_sbC S t seed) 8 (xar (x_sbC S t seed) 23)) 5 (xar (x_sbC S t seed) 24))).1 7 = S.1 7 := (nf_keep (fun Z : StX => Z.1 7) x_sb3 (fun _ _ => rfl) _ _).trans (hC.2.2.2.2 7 rfl)
            have huS : i < S.2.2.2.1 := Nat.lt_of_lt_of_le hi hI.mnp
            have hk5 : (nf x_sb3 i (setXa (setXa (x_sbC S t seed) 8 (xar (x_sbC S t seed) 23)) 5 (xar (x_sbC S t seed) 24))).2.2.2.2.2.1 i < 5 := by rw [hpk]; exact hI.k5 huS
            have hu : i < (nf x_sb3 i (setXa (setXa (x_sbC S t seed) 8 (xar (x_sbC S t seed) 23)) 5 (xar (x_sbC S t seed) 24))).2.2.2.1 := by rw [hnp]; exact huS
            have hu3 : i < 3 := Nat.lt_of_lt_of_le huS hI.np
            have hv3 : vp_in (nI i) 3 := vp_in_nI hu3 (by decide)
            simp only [nf] at K164
            generalize nf x_sb3 i (setXa (setXa (x_sbC S t seed) 8 (xar (x_sbC S t seed) 23)) 5 (xar (x_sbC S t seed) 24)) = Z at K164 hnp hpk hg hk5 hu ⊢
            refine r_iload (pc := 164) C dX0_schoolsBy_164 rfl ?_
            refine r_aload_n (pc := 166) C dX0_schoolsBy_166 rfl ?_
            refine X_g7 (pc := 167) C dX0_schoolsBy_167 ?_
            refine r_icmp_ge (pc := 170) 196 C dX0_schoolsBy_170 (by decide) (fun c170 => ?_) (fun c170 => ?_)
            · rw [hg] at c170
              exact absurd c170 (lp_in hI.many (by decide) hi)
            · refine r_aload_n (pc := 173) C dX0_schoolsBy_173 rfl ?_
              refine X_g6 (pc := 174) C dX0_schoolsBy_174 ?_
              refine r_iload (pc := 177) C dX0_schoolsBy_177 rfl ?_
              refine X_l6 (pc := 179) C dX0_schoolsBy_179 rfl hu hu3 ?_
              refine r_aload_n (pc := 180) C dX0_schoolsBy_180 rfl ?_
              refine X_g25 (pc := 181) C dX0_schoolsBy_181 ?_
              refine r_iload (pc := 184) C dX0_schoolsBy_184 rfl ?_
              refine X_l25 (pc := 186) C dX0_schoolsBy_186 hv3 ?_
              refine P_p3 (pc := 187) C dX0_schoolsBy_187 (by assumption) (by assumption) ?_
              refine r_iinc (pc := 190) _ C dX0_schoolsBy_190 rfl (nI_1 i) (by decide) ?_
              refine r_goto (pc := 193) 164 C dX0_schoolsBy_193 (by decide) ?_
              exact K164
          · have hg : (nf x_sb3 (S.1 7).toNatClampNeg (setXa (setXa (x_sbC S t seed) 8 (xar (x_sbC S t seed) 23)) 5 (xar (x_sbC S t seed) 24))).1 7 = S.1 7 := (nf_keep (fun Z : StX => Z.1 7) x_sb3 (fun _ _ => rfl) _ _).trans (hC.2.2.2.2 7 rfl)
            refine r_iload (pc := 164) C dX0_schoolsBy_164 rfl ?_
            refine r_aload_n (pc := 166) C dX0_schoolsBy_166 rfl ?_
            refine X_g7 (pc := 167) C dX0_schoolsBy_167 ?_
            refine r_icmp_ge (pc := 170) 196 C dX0_schoolsBy_170 (by decide) (fun c170 => ?_) (fun c170 => ?_)
            · refine r_iload_n (pc := 196) C dX0_schoolsBy_196 rfl ?_
              refine r_if_ne (pc := 197) 205 C dX0_schoolsBy_197 (by decide) (fun c197 => ?_) (fun c197 => ?_)
              · refine r_iload_n (pc := 205) C dX0_schoolsBy_205 rfl ?_
                refine r_iconst (pc := 206) (1) C dX0_schoolsBy_206 (by decide) ?_
                refine r_icmp_ne (pc := 207) 215 C dX0_schoolsBy_207 (by decide) (fun c207 => ?_) (fun c207 => ?_)
                · refine r_aload_n (pc := 215) C dX0_schoolsBy_215 rfl ?_
                  refine X_g22 (pc := 216) C dX0_schoolsBy_216 ?_
                  exact r_iret (pc := 219) C hR dX0_schoolsBy_219 (by decide) (by decide) ⟨by (rw [x_schoolsBy, if_neg c197, if_neg c207] <;> rfl), rfl⟩
                · refine r_iload (pc := 210) C dX0_schoolsBy_210 rfl ?_
                  refine r_goto (pc := 212) 219 C dX0_schoolsBy_212 (by decide) ?_
                  exact r_iret (pc := 219) C hR dX0_schoolsBy_219 (by decide) (by decide) ⟨by (rw [x_schoolsBy, if_neg c197, if_pos c207] <;> rfl), rfl⟩
              · refine r_iload (pc := 200) C dX0_schoolsBy_200 rfl ?_
                refine r_goto (pc := 202) 219 C dX0_schoolsBy_202 (by decide) ?_
                exact r_iret (pc := 219) C hR dX0_schoolsBy_219 (by decide) (by decide) ⟨by (rw [x_schoolsBy, if_pos c197] <;> rfl), rfl⟩
            · rw [hg] at c170
              exact absurd (lp_out hI.many (by decide)) c170
        · rw [hg] at c89
          exact absurd (lp_out hN (by decide)) c89
    · rw [hg] at c41
      exact absurd (lp_out hI.many (by decide)) c41

set_option maxHeartbeats 4000000 in
theorem cX_schools {G : Gx} (B : Base G) (a : Nat → Nat) (S : StX) (t seed w : Int32) (hI : IX S) : Ci G yX0_schools cX0_schools 4 .int (rmD 7) (wX G a) S [.ref (a 0), .int t, .int seed, .int w] (fun r S' => r = (x_schools S t seed w).1 ∧ S' = (x_schools S t seed w).2) := by
  refine Ci.of B [some (.ref (a 0)), some (.int t), some (.int seed), some (.int w)] (by decide) rfl (Nat.le_of_ble_eq_true rfl) (fun E C hR => ?_)
  have C : CxOk E RX0 cX0_schools 4 G (rmD 7) := C
  refine r_iload_n (pc := 0) C dX0_schools_0 rfl ?_
  refine r_i2l (pc := 1) C dX0_schools_1 ?_
  refine r_lconst (pc := 2) 1 C dX0_schools_2 (by decide) ?_
  refine r_ldc2 (pc := 3) C dX0_schools_3 q639 ?_
  refine S_cQi (pc := 6) C (cX_isIn32 B _ 1 20) q211 mX0_isIn rfl dX0_schools_6 (by decide) (Nat.le_of_ble_eq_true rfl) ?_
  refine r_if_eq (pc := 9) 28 C dX0_schools_9 (by decide) (fun c9 => ?_) (fun c9 => ?_)
  · refine r_bipush (pc := 28) (-102) C dX0_schools_28 (by decide) ?_
    exact r_iret (pc := 30) C hR dX0_schools_30 (by decide) (by decide) ⟨by (rw [x_schools, if_pos c9] <;> rfl), by (rw [x_schools, if_pos c9] <;> rfl)⟩
  · refine r_iload_n (pc := 12) C dX0_schools_12 rfl ?_
    refine r_if_lt (pc := 13) 28 C dX0_schools_13 (by decide) (fun c13 => ?_) (fun c13 => ?_)
    · refine r_bipush (pc := 28) (-102) C dX0_schools_28 (by decide) ?_
      exact r_iret (pc := 30) C hR dX0_schools_30 (by decide) (by decide) ⟨by (rw [x_schools, if_neg c9, if_pos c13] <;> rfl), by (rw [x_schools, if_neg c9, if_pos c13] <;> rfl)⟩
    · refine r_iload_n (pc := 16) C dX0_schools_16 rfl ?_
      refine r_i2l (pc := 17) C dX0_schools_17 ?_
      refine r_lconst (pc := 18) 0 C dX0_schools_18 (by decide) ?_
      refine r_ldc2 (pc := 19) C dX0_schools_19 q268 ?_
      refine S_cQi (pc := 22) C (cX_isIn32 B _ 0 2) q211 mX0_isIn rfl dX0_schools_22 (by decide) (Nat.le_of_ble_eq_true rfl) ?_
      refine r_if_ne (pc := 25) 31 C dX0_schools_25 (by decide) (fun c25 => ?_) (fun c25 => ?_)
      · refine r_aload_n (pc := 31) C dX0_schools_31 rfl ?_
        refine X_g7 (pc := 32) C dX0_schools_32 ?_
        refine r_if_le (pc := 35) 48 C dX0_schools_35 (by decide) (fun c35 => ?_) (fun c35 => ?_)
        · refine r_bipush (pc := 48) (-103) C dX0_schools_48 (by decide) ?_
          exact r_iret (pc := 50) C hR dX0_schools_50 (by decide) (by decide) ⟨by (rw [x_schools, if_neg c9, if_neg c13, if_neg c25, if_pos c35] <;> rfl), by (rw [x_schools, if_neg c9, if_neg c13, if_neg c25, if_pos c35] <;> rfl)⟩
        · have hm : 0 < (S.1 7).toNatClampNeg := Nat.pos_of_ne_zero fun e => c35 (by rw [hI.many.1, e]; decide)
          refine r_aload_n (pc := 38) C dX0_schools_38 rfl ?_
          refine r_iload_n (pc := 39) C dX0_schools_39 rfl ?_
          refine r_iload_n (pc := 40) C dX0_schools_40 rfl ?_
          refine r_iload_n (pc := 41) C dX0_schools_41 rfl ?_
          refine X_cQi (pc := 42) C (cX_schoolsBy B a _ _ _ _ (by assumption) (t_rg c9).1 (by assumption)) q640 mX0_schoolsBy rfl dX0_schools_42 (by decide) (Nat.le_of_ble_eq_true rfl) ?_
          refine r_goto (pc := 45) 50 C dX0_schools_45 (by decide) ?_
          exact r_iret (pc := 50) C hR dX0_schools_50 (by decide) (by decide) ⟨by (rw [x_schools, if_neg c9, if_neg c13, if_neg c25, if_neg c35] <;> rfl), by (rw [x_schools, if_neg c9, if_neg c13, if_neg c25, if_neg c35] <;> rfl)⟩
      · refine r_bipush (pc := 28) (-102) C dX0_schools_28 (by decide) ?_
        exact r_iret (pc := 30) C hR dX0_schools_30 (by decide) (by decide) ⟨by (rw [x_schools, if_neg c9, if_neg c13, if_pos c25] <;> rfl), by (rw [x_schools, if_neg c9, if_neg c13, if_pos c25] <;> rfl)⟩

