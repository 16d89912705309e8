
set_option maxRecDepth 100000
theorem arrV_congr {c : ClassId} {n : Nat} {f g : Nat → Value} (h : ∀ j, j < n → f j = g j) : arrV c n f = arrV c n g := by
  unfold arrV
  congr 1
  exact congrArg _ (funext fun j => h j.val j.isLt)
/-- what an array holds beyond its length is nothing -/
theorem va_refn {D : va_G} {cl : List vw_C} {ws : va_W} {q a n : Nat} {c : ClassId} {f g : Nat → Int32} {H : Heap} (hP : va_P D cl (ws.set q (a, .inl (c, n, .inl f))) H) (h : ∀ j, j < n → f j = g j) : va_P D cl (ws.set q (a, .inl (c, n, .inl g))) H := by
  intro i x hx
  have h1 := hP i
  rw [List.getElem?_set] at hx h1
  by_cases e : q = i
  · rw [if_pos e] at hx h1
    by_cases e2 : q < ws.length
    · rw [if_pos e2] at hx h1
      cases hx
      have h2 := h1 _ rfl
      refine Eq.trans h2 (congrArg some ?_)
      show vp_cell c (n, .inl f) = vp_cell c (n, .inl g)
      rw [vp_cell_i, vp_cell_i]
      exact arrV_congr fun j hj => by rw [h j hj]
    · rw [if_neg e2] at hx
      cases hx
  · rw [if_neg e] at hx h1
    exact h1 x hx
/-- X's state: ints, longs, arrays by field; princes: how many there are, their cells, kinds, fields -/
abbrev StX : Type := (Nat → Int32) × (Nat → Int64) × (Nat → Nat → Int32) × (Nat × (Nat → Nat) × (Nat → Nat) × (Nat → Nat → Int32))
def pcell (S : StX) (p : Nat) : Nat × va_E := (S.2.2.2.2.1 p, .inr (2 + S.2.2.2.2.2.1 p, [.int (S.2.2.2.2.2.2 p 0), .int (S.2.2.2.2.2.2 p 1), .int (S.2.2.2.2.2.2 p 2), .int (S.2.2.2.2.2.2 p 3), .int (S.2.2.2.2.2.2 p 4), .int (S.2.2.2.2.2.2 p 5)]))
def setXp (S : StX) (p f : Nat) (v : Int32) : StX := (S.1, S.2.1, S.2.2.1, S.2.2.2.1, S.2.2.2.2.1, S.2.2.2.2.2.1, va_up S.2.2.2.2.2.2 p (va_up (S.2.2.2.2.2.2 p) f v))
def fsX (a : Nat → Nat) (S : StX) : List Value := [.int (S.1 0), .int (S.1 1), .int (S.1 2), .ref (a 3), .ref (a 4), .ref (a 5), .ref (a 6), .int (S.1 7), .ref (a 8), .ref (a 9), .int (S.1 10), .int (S.1 11), .ref (a 12), .ref (a 13), .int (S.1 14), .long (S.2.1 15), .ref (a 16), .ref (a 17), .ref (a 18), .ref (a 19), .ref (a 20), .int (S.1 21), .int (S.1 22), .ref (a 23), .ref (a 24), .ref (a 25), .ref (a 26), .ref (a 27), .ref (a 28), .ref (a 29), .ref (a 30), .int (S.1 31), .int (S.1 32), .int (S.1 33), .long (S.2.1 34)]
def wX (G : Gx) (a : Nat → Nat) (S : StX) : va_W := [(a 0, .inr (0, fsX a S)), (a 3, .inl (G.2.1 0, 5, .inl (S.2.2.1 3))), (a 4, .inl (G.2.1 0, 5, .inl (S.2.2.1 4))), (a 5, .inl (G.2.1 0, 3, .inl (S.2.2.1 5))), (a 6, .inl (G.2.1 3, 3, .inr (.inr (.inr (.inr (fun j => if j < S.2.2.2.1 then some (S.2.2.2.2.1 j) else none)))))), (a 8, .inl (G.2.1 0, 9, .inl (S.2.2.1 8))), (a 9, .inl (G.2.1 0, 18, .inl (S.2.2.1 9))), (a 12, .inl (G.2.1 0, 5, .inl (S.2.2.1 12))), (a 13, .inl (G.2.1 0, 5, .inl (S.2.2.1 13))), (a 16, .inl (G.2.1 0, 3, .inl (S.2.2.1 16))), (a 17, .inl (G.2.1 0, 3, .inl (S.2.2.1 17))), (a 18, .inl (G.2.1 0, 6, .inl (S.2.2.1 18))), (a 19, .inl (G.2.1 0, 6, .inl (S.2.2.1 19))), (a 20, .inl (G.2.1 1, 6, .inl (S.2.2.1 20))), (a 23, .inl (G.2.1 0, 9, .inl (S.2.2.1 23))), (a 24, .inl (G.2.1 0, 3, .inl (S.2.2.1 24))), (a 25, .inl (G.2.1 0, 3, .inl (S.2.2.1 25))), (a 26, .inl (G.2.1 0, 9, .inl (S.2.2.1 26))), (a 27, .inl (G.2.1 0, 3, .inl (S.2.2.1 27))), (a 28, .inl (G.2.1 0, 6, .inl (S.2.2.1 28))), (a 29, .inl (G.2.1 0, 6, .inl (S.2.2.1 29))), (a 30, .inl (G.2.1 1, 6, .inl (S.2.2.1 30)))] ++ (List.range S.2.2.2.1).map (pcell S)
def setXi (S : StX) (f : Nat) (v : Int32) : StX := (va_up S.1 f v, S.2)
def setXl (S : StX) (f : Nat) (v : Int64) : StX := (S.1, va_up S.2.1 f v, S.2.2)
def setXa (S : StX) (f : Nat) (g : Nat → Int32) : StX := (S.1, S.2.1, va_up S.2.2.1 f g, S.2.2.2)
section VX
variable {E : Cx} {cc : ByteArray} {nL k n : Nat} {G : Gx} {rm : Room} {pc : Nat} {ls : List (Option Value)} {st : List Value} {a : Nat → Nat} {S : StX}
theorem X_g0 (C : CxOk E RX0 cc nL G rm) (hd : decode cc pc = .ok (.getfield 124, 3)) (K : V E nL k n (wX G a S) (pc + 3) ls (.int (S.1 0) :: st)) : V E nL k n (wX G a S) pc ls (.ref (a 0) :: st) := by
  obtain ⟨p, l, e, R, s, m, args, below, meth, c, Q, A, G'⟩ := E
  obtain ⟨hx, hb, hml, hown, hts, hK, hA, hlk, rfl, hGG, hW0⟩ := C
  subst G'
  exact fun H locs arr hP hD hS hl => va_get (D := G.1) (ci := 0) (v := .int (S.1 0)) (C := RX0) (T := TX0) (N := 35) hx hb hts in_X0 hown hK hP 0 rfl rfl 0 (by decide) (hts _ q97) (fun _ h => h) rfl hd (K H locs arr hP hD hS hl)
theorem X_p0 {v : Int32} (C : CxOk E RX0 cc nL G rm) (hd : decode cc pc = .ok (.putfield 124, 3)) (K : V E nL k n (wX G a (setXi S 0 v)) (pc + 3) ls st) : V E nL k n (wX G a S) pc ls (.int v :: .ref (a 0) :: st) := by
  obtain ⟨p, l, e, R, s, m, args, below, meth, c, Q, A, G'⟩ := E
  obtain ⟨hx, hb, hml, hown, hts, hK, hA, hlk, rfl, hGG, hW0⟩ := C
  subst G'
  exact fun H locs arr hP hD hS hl => va_put (D := G.1) (ci := 0) (v := .int v) (ty := .int) (C := RX0) (T := TX0) (N := 35) hx hb hts in_X0 tyX0 tyX0_ok nmX0 hown hK hP hD hS 0 rfl rfl 0 (by decide) (hts _ q97) (fun _ h => h) rfl (by decide +kernel) rfl rfl (Nat.le_of_ble_eq_true rfl) hd (fun H locs hP hD hS => K H locs arr hP hD hS hl)
theorem X_g1 (C : CxOk E RX0 cc nL G rm) (hd : decode cc pc = .ok (.getfield 127, 3)) (K : V E nL k n (wX G a S) (pc + 3) ls (.int (S.1 1) :: st)) : V E nL k n (wX G a S) pc ls (.ref (a 0) :: st) := by
  obtain ⟨p, l, e, R, s, m, args, below, meth, c, Q, A, G'⟩ := E
  obtain ⟨hx, hb, hml, hown, hts, hK, hA, hlk, rfl, hGG, hW0⟩ := C
  subst G'
  exact fun H locs arr hP hD hS hl => va_get (D := G.1) (ci := 0) (v := .int (S.1 1)) (C := RX0) (T := TX0) (N := 35) hx hb hts in_X0 hown hK hP 0 rfl rfl 1 (by decide) (hts _ q98) (fun _ h => h) rfl hd (K H locs arr hP hD hS hl)
theorem X_p1 {v : Int32} (C : CxOk E RX0 cc nL G rm) (hd : decode cc pc = .ok (.putfield 127, 3)) (K : V E nL k n (wX G a (setXi S 1 v)) (pc + 3) ls st) : V E nL k n (wX G a S) pc ls (.int v :: .ref (a 0) :: st) := by
  obtain ⟨p, l, e, R, s, m, args, below, meth, c, Q, A, G'⟩ := E
  obtain ⟨hx, hb, hml, hown, hts, hK, hA, hlk, rfl, hGG, hW0⟩ := C
  subst G'
  exact fun H locs arr hP hD hS hl => va_put (D := G.1) (ci := 0) (v := .int v) (ty := .int) (C := RX0) (T := TX0) (N := 35) hx hb hts in_X0 tyX0 tyX0_ok nmX0 hown hK hP hD hS 0 rfl rfl 1 (by decide) (hts _ q98) (fun _ h => h) rfl (by decide +kernel) rfl rfl (Nat.le_of_ble_eq_true rfl) hd (fun H locs hP hD hS => K H locs arr hP hD hS hl)
theorem X_g2 (C : CxOk E RX0 cc nL G rm) (hd : decode cc pc = .ok (.getfield 136, 3)) (K : V E nL k n (wX G a S) (pc + 3) ls (.int (S.1 2) :: st)) : V E nL k n (wX G a S) pc ls (.ref (a 0) :: st) := by
  obtain ⟨p, l, e, R, s, m, args, below, meth, c, Q, A, G'⟩ := E
  obtain ⟨hx, hb, hml, hown, hts, hK, hA, hlk, rfl, hGG, hW0⟩ := C
  subst G'
  exact fun H locs arr hP hD hS hl => va_get (D := G.1) (ci := 0) (v := .int (S.1 2)) (C := RX0) (T := TX0) (N := 35) hx hb hts in_X0 hown hK hP 0 rfl rfl 2 (by decide) (hts _ q99) (fun _ h => h) rfl hd (K H locs arr hP hD hS hl)
theorem X_p2 {v : Int32} (C : CxOk E RX0 cc nL G rm) (hd : decode cc pc = .ok (.putfield 136, 3)) (K : V E nL k n (wX G a (setXi S 2 v)) (pc + 3) ls st) : V E nL k n (wX G a S) pc ls (.int v :: .ref (a 0) :: st) := by
  obtain ⟨p, l, e, R, s, m, args, below, meth, c, Q, A, G'⟩ := E
  obtain ⟨hx, hb, hml, hown, hts, hK, hA, hlk, rfl, hGG, hW0⟩ := C
  subst G'
  exact fun H locs arr hP hD hS hl => va_put (D := G.1) (ci := 0) (v := .int v) (ty := .int) (C := RX0) (T := TX0) (N := 35) hx hb hts in_X0 tyX0 tyX0_ok nmX0 hown hK hP hD hS 0 rfl rfl 2 (by decide) (hts _ q99) (fun _ h => h) rfl (by decide +kernel) rfl rfl (Nat.le_of_ble_eq_true rfl) hd (fun H locs hP hD hS => K H locs arr hP hD hS hl)
theorem X_g3 (C : CxOk E RX0 cc nL G rm) (hd : decode cc pc = .ok (.getfield 24, 3)) (K : V E nL k n (wX G a S) (pc + 3) ls (.ref (a 3) :: st)) : V E nL k n (wX G a S) pc ls (.ref (a 0) :: st) := by
  obtain ⟨p, l, e, R, s, m, args, below, meth, c, Q, A, G'⟩ := E
  obtain ⟨hx, hb, hml, hown, hts, hK, hA, hlk, rfl, hGG, hW0⟩ := C
  subst G'
  exact fun H locs arr hP hD hS hl => va_get (D := G.1) (ci := 0) (v := .ref (a 3)) (C := RX0) (T := TX0) (N := 35) hx hb hts in_X0 hown hK hP 0 rfl rfl 3 (by decide) (hts _ q100) (fun _ h => h) rfl hd (K H locs arr hP hD hS hl)
theorem X_g4 (C : CxOk E RX0 cc nL G rm) (hd : decode cc pc = .ok (.getfield 28, 3)) (K : V E nL k n (wX G a S) (pc + 3) ls (.ref (a 4) :: st)) : V E nL k n (wX G a S) pc ls (.ref (a 0) :: st) := by
  obtain ⟨p, l, e, R, s, m, args, below, meth, c, Q, A, G'⟩ := E
  obtain ⟨hx, hb, hml, hown, hts, hK, hA, hlk, rfl, hGG, hW0⟩ := C
  subst G'
  exact fun H locs arr hP hD hS hl => va_get (D := G.1) (ci := 0) (v := .ref (a 4)) (C := RX0) (T := TX0) (N := 35) hx hb hts in_X0 hown hK hP 0 rfl rfl 4 (by decide) (hts _ q101) (fun _ h => h) rfl hd (K H locs arr hP hD hS hl)
theorem X_g5 (C : CxOk E RX0 cc nL G rm) (hd : decode cc pc = .ok (.getfield 31, 3)) (K : V E nL k n (wX G a S) (pc + 3) ls (.ref (a 5) :: st)) : V E nL k n (wX G a S) pc ls (.ref (a 0) :: st) := by
  obtain ⟨p, l, e, R, s, m, args, below, meth, c, Q, A, G'⟩ := E
  obtain ⟨hx, hb, hml, hown, hts, hK, hA, hlk, rfl, hGG, hW0⟩ := C
  subst G'
  exact fun H locs arr hP hD hS hl => va_get (D := G.1) (ci := 0) (v := .ref (a 5)) (C := RX0) (T := TX0) (N := 35) hx hb hts in_X0 hown hK hP 0 rfl rfl 5 (by decide) (hts _ q102) (fun _ h => h) rfl hd (K H locs arr hP hD hS hl)
theorem X_g6 (C : CxOk E RX0 cc nL G rm) (hd : decode cc pc = .ok (.getfield 34, 3)) (K : V E nL k n (wX G a S) (pc + 3) ls (.ref (a 6) :: st)) : V E nL k n (wX G a S) pc ls (.ref (a 0) :: st) := by
  obtain ⟨p, l, e, R, s, m, args, below, meth, c, Q, A, G'⟩ := E
  obtain ⟨hx, hb, hml, hown, hts, hK, hA, hlk, rfl, hGG, hW0⟩ := C
  subst G'
  exact fun H locs arr hP hD hS hl => va_get (D := G.1) (ci := 0) (v := .ref (a 6)) (C := RX0) (T := TX0) (N := 35) hx hb hts in_X0 hown hK hP 0 rfl rfl 6 (by decide) (hts _ q103) (fun _ h => h) rfl hd (K H locs arr hP hD hS hl)
theorem X_g7 (C : CxOk E RX0 cc nL G rm) (hd : decode cc pc = .ok (.getfield 130, 3)) (K : V E nL k n (wX G a S) (pc + 3) ls (.int (S.1 7) :: st)) : V E nL k n (wX G a S) pc ls (.ref (a 0) :: st) := by
  obtain ⟨p, l, e, R, s, m, args, below, meth, c, Q, A, G'⟩ := E
  obtain ⟨hx, hb, hml, hown, hts, hK, hA, hlk, rfl, hGG, hW0⟩ := C
  subst G'
  exact fun H locs arr hP hD hS hl => va_get (D := G.1) (ci := 0) (v := .int (S.1 7)) (C := RX0) (T := TX0) (N := 35) hx hb hts in_X0 hown hK hP 0 rfl rfl 7 (by decide) (hts _ q104) (fun _ h => h) rfl hd (K H locs arr hP hD hS hl)
theorem X_p7 {v : Int32} (C : CxOk E RX0 cc nL G rm) (hd : decode cc pc = .ok (.putfield 130, 3)) (K : V E nL k n (wX G a (setXi S 7 v)) (pc + 3) ls st) : V E nL k n (wX G a S) pc ls (.int v :: .ref (a 0) :: st) := by
  obtain ⟨p, l, e, R, s, m, args, below, meth, c, Q, A, G'⟩ := E
  obtain ⟨hx, hb, hml, hown, hts, hK, hA, hlk, rfl, hGG, hW0⟩ := C
  subst G'
  exact fun H locs arr hP hD hS hl => va_put (D := G.1) (ci := 0) (v := .int v) (ty := .int) (C := RX0) (T := TX0) (N := 35) hx hb hts in_X0 tyX0 tyX0_ok nmX0 hown hK hP hD hS 0 rfl rfl 7 (by decide) (hts _ q104) (fun _ h => h) rfl (by decide +kernel) rfl rfl (Nat.le_of_ble_eq_true rfl) hd (fun H locs hP hD hS => K H locs arr hP hD hS hl)
theorem X_g8 (C : CxOk E RX0 cc nL G rm) (hd : decode cc pc = .ok (.getfield 38, 3)) (K : V E nL k n (wX G a S) (pc + 3) ls (.ref (a 8) :: st)) : V E nL k n (wX G a S) pc ls (.ref (a 0) :: st) := by
  obtain ⟨p, l, e, R, s, m, args, below, meth, c, Q, A, G'⟩ := E
  obtain ⟨hx, hb, hml, hown, hts, hK, hA, hlk, rfl, hGG, hW0⟩ := C
  subst G'
  exact fun H locs arr hP hD hS hl => va_get (D := G.1) (ci := 0) (v := .ref (a 8)) (C := RX0) (T := TX0) (N := 35) hx hb hts in_X0 hown hK hP 0 rfl rfl 8 (by decide) (hts _ q105) (fun _ h => h) rfl hd (K H locs arr hP hD hS hl)
theorem X_g9 (C : CxOk E RX0 cc nL G rm) (hd : decode cc pc = .ok (.getfield 41, 3)) (K : V E nL k n (wX G a S) (pc + 3) ls (.ref (a 9) :: st)) : V E nL k n (wX G a S) pc ls (.ref (a 0) :: st) := by
  obtain ⟨p, l, e, R, s, m, args, below, meth, c, Q, A, G'⟩ := E
  obtain ⟨hx, hb, hml, hown, hts, hK, hA, hlk, rfl, hGG, hW0⟩ := C
  subst G'
  exact fun H locs arr hP hD hS hl => va_get (D := G.1) (ci := 0) (v := .ref (a 9)) (C := RX0) (T := TX0) (N := 35) hx hb hts in_X0 hown hK hP 0 rfl rfl 9 (by decide) (hts _ q106) (fun _ h => h) rfl hd (K H locs arr hP hD hS hl)
theorem X_g10 (C : CxOk E RX0 cc nL G rm) (hd : decode cc pc = .ok (.getfield 102, 3)) (K : V E nL k n (wX G a S) (pc + 3) ls (.int (S.1 10) :: st)) : V E nL k n (wX G a S) pc ls (.ref (a 0) :: st) := by
  obtain ⟨p, l, e, R, s, m, args, below, meth, c, Q, A, G'⟩ := E
  obtain ⟨hx, hb, hml, hown, hts, hK, hA, hlk, rfl, hGG, hW0⟩ := C
  subst G'
  exact fun H locs arr hP hD hS hl => va_get (D := G.1) (ci := 0) (v := .int (S.1 10)) (C := RX0) (T := TX0) (N := 35) hx hb hts in_X0 hown hK hP 0 rfl rfl 10 (by decide) (hts _ q107) (fun _ h => h) rfl hd (K H locs arr hP hD hS hl)
theorem X_p10 {v : Int32} (C : CxOk E RX0 cc nL G rm) (hd : decode cc pc = .ok (.putfield 102, 3)) (K : V E nL k n (wX G a (setXi S 10 v)) (pc + 3) ls st) : V E nL k n (wX G a S) pc ls (.int v :: .ref (a 0) :: st) := by
  obtain ⟨p, l, e, R, s, m, args, below, meth, c, Q, A, G'⟩ := E
  obtain ⟨hx, hb, hml, hown, hts, hK, hA, hlk, rfl, hGG, hW0⟩ := C
  subst G'
  exact fun H locs arr hP hD hS hl => va_put (D := G.1) (ci := 0) (v := .int v) (ty := .int) (C := RX0) (T := TX0) (N := 35) hx hb hts in_X0 tyX0 tyX0_ok nmX0 hown hK hP hD hS 0 rfl rfl 10 (by decide) (hts _ q107) (fun _ h => h) rfl (by decide +kernel) rfl rfl (Nat.le_of_ble_eq_true rfl) hd (fun H locs hP hD hS => K H locs arr hP hD hS hl)
theorem X_g11 (C : CxOk E RX0 cc nL G rm) (hd : decode cc pc = .ok (.getfield 277, 3)) (K : V E nL k n (wX G a S) (pc + 3) ls (.int (S.1 11) :: st)) : V E nL k n (wX G a S) pc ls (.ref (a 0) :: st) := by
  obtain ⟨p, l, e, R, s, m, args, below, meth, c, Q, A, G'⟩ := E
  obtain ⟨hx, hb, hml, hown, hts, hK, hA, hlk, rfl, hGG, hW0⟩ := C
  subst G'
  exact fun H locs arr hP hD hS hl => va_get (D := G.1) (ci := 0) (v := .int (S.1 11)) (C := RX0) (T := TX0) (N := 35) hx hb hts in_X0 hown hK hP 0 rfl rfl 11 (by decide) (hts _ q108) (fun _ h => h) rfl hd (K H locs arr hP hD hS hl)
theorem X_p11 {v : Int32} (C : CxOk E RX0 cc nL G rm) (hd : decode cc pc = .ok (.putfield 277, 3)) (K : V E nL k n (wX G a (setXi S 11 v)) (pc + 3) ls st) : V E nL k n (wX G a S) pc ls (.int v :: .ref (a 0) :: st) := by
  obtain ⟨p, l, e, R, s, m, args, below, meth, c, Q, A, G'⟩ := E
  obtain ⟨hx, hb, hml, hown, hts, hK, hA, hlk, rfl, hGG, hW0⟩ := C
  subst G'
  exact fun H locs arr hP hD hS hl => va_put (D := G.1) (ci := 0) (v := .int v) (ty := .int) (C := RX0) (T := TX0) (N := 35) hx hb hts in_X0 tyX0 tyX0_ok nmX0 hown hK hP hD hS 0 rfl rfl 11 (by decide) (hts _ q108) (fun _ h => h) rfl (by decide +kernel) rfl rfl (Nat.le_of_ble_eq_true rfl) hd (fun H locs hP hD hS => K H locs arr hP hD hS hl)
theorem X_g12 (C : CxOk E RX0 cc nL G rm) (hd : decode cc pc = .ok (.getfield 44, 3)) (K : V E nL k n (wX G a S) (pc + 3) ls (.ref (a 12) :: st)) : V E nL k n (wX G a S) pc ls (.ref (a 0) :: st) := by
  obtain ⟨p, l, e, R, s, m, args, below, meth, c, Q, A, G'⟩ := E
  obtain ⟨hx, hb, hml, hown, hts, hK, hA, hlk, rfl, hGG, hW0⟩ := C
  subst G'
  exact fun H locs arr hP hD hS hl => va_get (D := G.1) (ci := 0) (v := .ref (a 12)) (C := RX0) (T := TX0) (N := 35) hx hb hts in_X0 hown hK hP 0 rfl rfl 12 (by decide) (hts _ q109) (fun _ h => h) rfl hd (K H locs arr hP hD hS hl)
theorem X_g13 (C : CxOk E RX0 cc nL G rm) (hd : decode cc pc = .ok (.getfield 47, 3)) (K : V E nL k n (wX G a S) (pc + 3) ls (.ref (a 13) :: st)) : V E nL k n (wX G a S) pc ls (.ref (a 0) :: st) := by
  obtain ⟨p, l, e, R, s, m, args, below, meth, c, Q, A, G'⟩ := E
  obtain ⟨hx, hb, hml, hown, hts, hK, hA, hlk, rfl, hGG, hW0⟩ := C
  subst G'
  exact fun H locs arr hP hD hS hl => va_get (D := G.1) (ci := 0) (v := .ref (a 13)) (C := RX0) (T := TX0) (N := 35) hx hb hts in_X0 hown hK hP 0 rfl rfl 13 (by decide) (hts _ q110) (fun _ h => h) rfl hd (K H locs arr hP hD hS hl)
theorem X_g14 (C : CxOk E RX0 cc nL G rm) (hd : decode cc pc = .ok (.getfield 236, 3)) (K : V E nL k n (wX G a S) (pc + 3) ls (.int (S.1 14) :: st)) : V E nL k n (wX G a S) pc ls (.ref (a 0) :: st) := by
  obtain ⟨p, l, e, R, s, m, args, below, meth, c, Q, A, G'⟩ := E
  obtain ⟨hx, hb, hml, hown, hts, hK, hA, hlk, rfl, hGG, hW0⟩ := C
  subst G'
  exact fun H locs arr hP hD hS hl => va_get (D := G.1) (ci := 0) (v := .int (S.1 14)) (C := RX0) (T := TX0) (N := 35) hx hb hts in_X0 hown hK hP 0 rfl rfl 14 (by decide) (hts _ q111) (fun _ h => h) rfl hd (K H locs arr hP hD hS hl)
theorem X_p14 {v : Int32} (C : CxOk E RX0 cc nL G rm) (hd : decode cc pc = .ok (.putfield 236, 3)) (K : V E nL k n (wX G a (setXi S 14 v)) (pc + 3) ls st) : V E nL k n (wX G a S) pc ls (.int v :: .ref (a 0) :: st) := by
  obtain ⟨p, l, e, R, s, m, args, below, meth, c, Q, A, G'⟩ := E
  obtain ⟨hx, hb, hml, hown, hts, hK, hA, hlk, rfl, hGG, hW0⟩ := C
  subst G'
  exact fun H locs arr hP hD hS hl => va_put (D := G.1) (ci := 0) (v := .int v) (ty := .int) (C := RX0) (T := TX0) (N := 35) hx hb hts in_X0 tyX0 tyX0_ok nmX0 hown hK hP hD hS 0 rfl rfl 14 (by decide) (hts _ q111) (fun _ h => h) rfl (by decide +kernel) rfl rfl (Nat.le_of_ble_eq_true rfl) hd (fun H locs hP hD hS => K H locs arr hP hD hS hl)
theorem X_g15 (C : CxOk E RX0 cc nL G rm) (hd : decode cc pc = .ok (.getfield 243, 3)) (K : V E nL k n (wX G a S) (pc + 3) ls (.long (S.2.1 15) :: st)) : V E nL k n (wX G a S) pc ls (.ref (a 0) :: st) := by
  obtain ⟨p, l, e, R, s, m, args, below, meth, c, Q, A, G'⟩ := E
  obtain ⟨hx, hb, hml, hown, hts, hK, hA, hlk, rfl, hGG, hW0⟩ := C
  subst G'
  exact fun H locs arr hP hD hS hl => va_get (D := G.1) (ci := 0) (v := .long (S.2.1 15)) (C := RX0) (T := TX0) (N := 35) hx hb hts in_X0 hown hK hP 0 rfl rfl 15 (by decide) (hts _ q112) (fun _ h => h) rfl hd (K H locs arr hP hD hS hl)
theorem X_p15 {v : Int64} (C : CxOk E RX0 cc nL G rm) (hd : decode cc pc = .ok (.putfield 243, 3)) (K : V E nL k n (wX G a (setXl S 15 v)) (pc + 3) ls st) : V E nL k n (wX G a S) pc ls (.long v :: .ref (a 0) :: st) := by
  obtain ⟨p, l, e, R, s, m, args, below, meth, c, Q, A, G'⟩ := E
  obtain ⟨hx, hb, hml, hown, hts, hK, hA, hlk, rfl, hGG, hW0⟩ := C
  subst G'
  exact fun H locs arr hP hD hS hl => va_put (D := G.1) (ci := 0) (v := .long v) (ty := .long) (C := RX0) (T := TX0) (N := 35) hx hb hts in_X0 tyX0 tyX0_ok nmX0 hown hK hP hD hS 0 rfl rfl 15 (by decide) (hts _ q112) (fun _ h => h) rfl (by decide +kernel) rfl rfl (Nat.le_of_ble_eq_true rfl) hd (fun H locs hP hD hS => K H locs arr hP hD hS hl)
theorem X_g16 (C : CxOk E RX0 cc nL G rm) (hd : decode cc pc = .ok (.getfield 50, 3)) (K : V E nL k n (wX G a S) (pc + 3) ls (.ref (a 16) :: st)) : V E nL k n (wX G a S) pc ls (.ref (a 0) :: st) := by
  obtain ⟨p, l, e, R, s, m, args, below, meth, c, Q, A, G'⟩ := E
  obtain ⟨hx, hb, hml, hown, hts, hK, hA, hlk, rfl, hGG, hW0⟩ := C
  subst G'
  exact fun H locs arr hP hD hS hl => va_get (D := G.1) (ci := 0) (v := .ref (a 16)) (C := RX0) (T := TX0) (N := 35) hx hb hts in_X0 hown hK hP 0 rfl rfl 16 (by decide) (hts _ q113) (fun _ h => h) rfl hd (K H locs arr hP hD hS hl)
theorem X_g17 (C : CxOk E RX0 cc nL G rm) (hd : decode cc pc = .ok (.getfield 53, 3)) (K : V E nL k n (wX G a S) (pc + 3) ls (.ref (a 17) :: st)) : V E nL k n (wX G a S) pc ls (.ref (a 0) :: st) := by
  obtain ⟨p, l, e, R, s, m, args, below, meth, c, Q, A, G'⟩ := E
  obtain ⟨hx, hb, hml, hown, hts, hK, hA, hlk, rfl, hGG, hW0⟩ := C
  subst G'
  exact fun H locs arr hP hD hS hl => va_get (D := G.1) (ci := 0) (v := .ref (a 17)) (C := RX0) (T := TX0) (N := 35) hx hb hts in_X0 hown hK hP 0 rfl rfl 17 (by decide) (hts _ q114) (fun _ h => h) rfl hd (K H locs arr hP hD hS hl)
theorem X_g18 (C : CxOk E RX0 cc nL G rm) (hd : decode cc pc = .ok (.getfield 56, 3)) (K : V E nL k n (wX G a S) (pc + 3) ls (.ref (a 18) :: st)) : V E nL k n (wX G a S) pc ls (.ref (a 0) :: st) := by
  obtain ⟨p, l, e, R, s, m, args, below, meth, c, Q, A, G'⟩ := E
  obtain ⟨hx, hb, hml, hown, hts, hK, hA, hlk, rfl, hGG, hW0⟩ := C
  subst G'
  exact fun H locs arr hP hD hS hl => va_get (D := G.1) (ci := 0) (v := .ref (a 18)) (C := RX0) (T := TX0) (N := 35) hx hb hts in_X0 hown hK hP 0 rfl rfl 18 (by decide) (hts _ q115) (fun _ h => h) rfl hd (K H locs arr hP hD hS hl)
theorem X_g19 (C : CxOk E RX0 cc nL G rm) (hd : decode cc pc = .ok (.getfield 59, 3)) (K : V E nL k n (wX G a S) (pc + 3) ls (.ref (a 19) :: st)) : V E nL k n (wX G a S) pc ls (.ref (a 0) :: st) := by
  obtain ⟨p, l, e, R, s, m, args, below, meth, c, Q, A, G'⟩ := E
  obtain ⟨hx, hb, hml, hown, hts, hK, hA, hlk, rfl, hGG, hW0⟩ := C
  subst G'
  exact fun H locs arr hP hD hS hl => va_get (D := G.1) (ci := 0) (v := .ref (a 19)) (C := RX0) (T := TX0) (N := 35) hx hb hts in_X0 hown hK hP 0 rfl rfl 19 (by decide) (hts _ q116) (fun _ h => h) rfl hd (K H locs arr hP hD hS hl)
theorem X_g20 (C : CxOk E RX0 cc nL G rm) (hd : decode cc pc = .ok (.getfield 62, 3)) (K : V E nL k n (wX G a S) (pc + 3) ls (.ref (a 20) :: st)) : V E nL k n (wX G a S) pc ls (.ref (a 0) :: st) := by
  obtain ⟨p, l, e, R, s, m, args, below, meth, c, Q, A, G'⟩ := E
  obtain ⟨hx, hb, hml, hown, hts, hK, hA, hlk, rfl, hGG, hW0⟩ := C
  subst G'
  exact fun H locs arr hP hD hS hl => va_get (D := G.1) (ci := 0) (v := .ref (a 20)) (C := RX0) (T := TX0) (N := 35) hx hb hts in_X0 hown hK hP 0 rfl rfl 20 (by decide) (hts _ q117) (fun _ h => h) rfl hd (K H locs arr hP hD hS hl)
theorem X_g21 (C : CxOk E RX0 cc nL G rm) (hd : decode cc pc = .ok (.getfield 133, 3)) (K : V E nL k n (wX G a S) (pc + 3) ls (.int (S.1 21) :: st)) : V E nL k n (wX G a S) pc ls (.ref (a 0) :: st) := by
  obtain ⟨p, l, e, R, s, m, args, below, meth, c, Q, A, G'⟩ := E
  obtain ⟨hx, hb, hml, hown, hts, hK, hA, hlk, rfl, hGG, hW0⟩ := C
  subst G'
  exact fun H locs arr hP hD hS hl => va_get (D := G.1) (ci := 0) (v := .int (S.1 21)) (C := RX0) (T := TX0) (N := 35) hx hb hts in_X0 hown hK hP 0 rfl rfl 21 (by decide) (hts _ q118) (fun _ h => h) rfl hd (K H locs arr hP hD hS hl)
theorem X_p21 {v : Int32} (C : CxOk E RX0 cc nL G rm) (hd : decode cc pc = .ok (.putfield 133, 3)) (K : V E nL k n (wX G a (setXi S 21 v)) (pc + 3) ls st) : V E nL k n (wX G a S) pc ls (.int v :: .ref (a 0) :: st) := by
  obtain ⟨p, l, e, R, s, m, args, below, meth, c, Q, A, G'⟩ := E
  obtain ⟨hx, hb, hml, hown, hts, hK, hA, hlk, rfl, hGG, hW0⟩ := C
  subst G'
  exact fun H locs arr hP hD hS hl => va_put (D := G.1) (ci := 0) (v := .int v) (ty := .int) (C := RX0) (T := TX0) (N := 35) hx hb hts in_X0 tyX0 tyX0_ok nmX0 hown hK hP hD hS 0 rfl rfl 21 (by decide) (hts _ q118) (fun _ h => h) rfl (by decide +kernel) rfl rfl (Nat.le_of_ble_eq_true rfl) hd (fun H locs hP hD hS => K H locs arr hP hD hS hl)
theorem X_g22 (C : CxOk E RX0 cc nL G rm) (hd : decode cc pc = .ok (.getfield 312, 3)) (K : V E nL k n (wX G a S) (pc + 3) ls (.int (S.1 22) :: st)) : V E nL k n (wX G a S) pc ls (.ref (a 0) :: st) := by
  obtain ⟨p, l, e, R, s, m, args, below, meth, c, Q, A, G'⟩ := E
  obtain ⟨hx, hb, hml, hown, hts, hK, hA, hlk, rfl, hGG, hW0⟩ := C
  subst G'
  exact fun H locs arr hP hD hS hl => va_get (D := G.1) (ci := 0) (v := .int (S.1 22)) (C := RX0) (T := TX0) (N := 35) hx hb hts in_X0 hown hK hP 0 rfl rfl 22 (by decide) (hts _ q119) (fun _ h => h) rfl hd (K H locs arr hP hD hS hl)
theorem X_p22 {v : Int32} (C : CxOk E RX0 cc nL G rm) (hd : decode cc pc = .ok (.putfield 312, 3)) (K : V E nL k n (wX G a (setXi S 22 v)) (pc + 3) ls st) : V E nL k n (wX G a S) pc ls (.int v :: .ref (a 0) :: st) := by
  obtain ⟨p, l, e, R, s, m, args, below, meth, c, Q, A, G'⟩ := E
  obtain ⟨hx, hb, hml, hown, hts, hK, hA, hlk, rfl, hGG, hW0⟩ := C
  subst G'
  exact fun H locs arr hP hD hS hl => va_put (D := G.1) (ci := 0) (v := .int v) (ty := .int) (C := RX0) (T := TX0) (N := 35) hx hb hts in_X0 tyX0 tyX0_ok nmX0 hown hK hP hD hS 0 rfl rfl 22 (by decide) (hts _ q119) (fun _ h => h) rfl (by decide +kernel) rfl rfl (Nat.le_of_ble_eq_true rfl) hd (fun H locs hP hD hS => K H locs arr hP hD hS hl)
theorem X_g23 (C : CxOk E RX0 cc nL G rm) (hd : decode cc pc = .ok (.getfield 66, 3)) (K : V E nL k n (wX G a S) (pc + 3) ls (.ref (a 23) :: st)) : V E nL k n (wX G a S) pc ls (.ref (a 0) :: st) := by
  obtain ⟨p, l, e, R, s, m, args, below, meth, c, Q, A, G'⟩ := E
  obtain ⟨hx, hb, hml, hown, hts, hK, hA, hlk, rfl, hGG, hW0⟩ := C
  subst G'
  exact fun H locs arr hP hD hS hl => va_get (D := G.1) (ci := 0) (v := .ref (a 23)) (C := RX0) (T := TX0) (N := 35) hx hb hts in_X0 hown hK hP 0 rfl rfl 23 (by decide) (hts _ q120) (fun _ h => h) rfl hd (K H locs arr hP hD hS hl)
theorem X_g24 (C : CxOk E RX0 cc nL G rm) (hd : decode cc pc = .ok (.getfield 69, 3)) (K : V E nL k n (wX G a S) (pc + 3) ls (.ref (a 24) :: st)) : V E nL k n (wX G a S) pc ls (.ref (a 0) :: st) := by
  obtain ⟨p, l, e, R, s, m, args, below, meth, c, Q, A, G'⟩ := E
  obtain ⟨hx, hb, hml, hown, hts, hK, hA, hlk, rfl, hGG, hW0⟩ := C
  subst G'
  exact fun H locs arr hP hD hS hl => va_get (D := G.1) (ci := 0) (v := .ref (a 24)) (C := RX0) (T := TX0) (N := 35) hx hb hts in_X0 hown hK hP 0 rfl rfl 24 (by decide) (hts _ q121) (fun _ h => h) rfl hd (K H locs arr hP hD hS hl)
theorem X_g25 (C : CxOk E RX0 cc nL G rm) (hd : decode cc pc = .ok (.getfield 72, 3)) (K : V E nL k n (wX G a S) (pc + 3) ls (.ref (a 25) :: st)) : V E nL k n (wX G a S) pc ls (.ref (a 0) :: st) := by
  obtain ⟨p, l, e, R, s, m, args, below, meth, c, Q, A, G'⟩ := E
  obtain ⟨hx, hb, hml, hown, hts, hK, hA, hlk, rfl, hGG, hW0⟩ := C
  subst G'
  exact fun H locs arr hP hD hS hl => va_get (D := G.1) (ci := 0) (v := .ref (a 25)) (C := RX0) (T := TX0) (N := 35) hx hb hts in_X0 hown hK hP 0 rfl rfl 25 (by decide) (hts _ q122) (fun _ h => h) rfl hd (K H locs arr hP hD hS hl)
theorem X_g26 (C : CxOk E RX0 cc nL G rm) (hd : decode cc pc = .ok (.getfield 75, 3)) (K : V E nL k n (wX G a S) (pc + 3) ls (.ref (a 26) :: st)) : V E nL k n (wX G a S) pc ls (.ref (a 0) :: st) := by
  obtain ⟨p, l, e, R, s, m, args, below, meth, c, Q, A, G'⟩ := E
  obtain ⟨hx, hb, hml, hown, hts, hK, hA, hlk, rfl, hGG, hW0⟩ := C
  subst G'
  exact fun H locs arr hP hD hS hl => va_get (D := G.1) (ci := 0) (v := .ref (a 26)) (C := RX0) (T := TX0) (N := 35) hx hb hts in_X0 hown hK hP 0 rfl rfl 26 (by decide) (hts _ q123) (fun _ h => h) rfl hd (K H locs arr hP hD hS hl)
theorem X_g27 (C : CxOk E RX0 cc nL G rm) (hd : decode cc pc = .ok (.getfield 78, 3)) (K : V E nL k n (wX G a S) (pc + 3) ls (.ref (a 27) :: st)) : V E nL k n (wX G a S) pc ls (.ref (a 0) :: st) := by
  obtain ⟨p, l, e, R, s, m, args, below, meth, c, Q, A, G'⟩ := E
  obtain ⟨hx, hb, hml, hown, hts, hK, hA, hlk, rfl, hGG, hW0⟩ := C
  subst G'
  exact fun H locs arr hP hD hS hl => va_get (D := G.1) (ci := 0) (v := .ref (a 27)) (C := RX0) (T := TX0) (N := 35) hx hb hts in_X0 hown hK hP 0 rfl rfl 27 (by decide) (hts _ q124) (fun _ h => h) rfl hd (K H locs arr hP hD hS hl)
theorem X_g28 (C : CxOk E RX0 cc nL G rm) (hd : decode cc pc = .ok (.getfield 81, 3)) (K : V E nL k n (wX G a S) (pc + 3) ls (.ref (a 28) :: st)) : V E nL k n (wX G a S) pc ls (.ref (a 0) :: st) := by
  obtain ⟨p, l, e, R, s, m, args, below, meth, c, Q, A, G'⟩ := E
  obtain ⟨hx, hb, hml, hown, hts, hK, hA, hlk, rfl, hGG, hW0⟩ := C
  subst G'
  exact fun H locs arr hP hD hS hl => va_get (D := G.1) (ci := 0) (v := .ref (a 28)) (C := RX0) (T := TX0) (N := 35) hx hb hts in_X0 hown hK hP 0 rfl rfl 28 (by decide) (hts _ q125) (fun _ h => h) rfl hd (K H locs arr hP hD hS hl)
theorem X_g29 (C : CxOk E RX0 cc nL G rm) (hd : decode cc pc = .ok (.getfield 84, 3)) (K : V E nL k n (wX G a S) (pc + 3) ls (.ref (a 29) :: st)) : V E nL k n (wX G a S) pc ls (.ref (a 0) :: st) := by
  obtain ⟨p, l, e, R, s, m, args, below, meth, c, Q, A, G'⟩ := E
  obtain ⟨hx, hb, hml, hown, hts, hK, hA, hlk, rfl, hGG, hW0⟩ := C
  subst G'
  exact fun H locs arr hP hD hS hl => va_get (D := G.1) (ci := 0) (v := .ref (a 29)) (C := RX0) (T := TX0) (N := 35) hx hb hts in_X0 hown hK hP 0 rfl rfl 29 (by decide) (hts _ q126) (fun _ h => h) rfl hd (K H locs arr hP hD hS hl)
theorem X_g30 (C : CxOk E RX0 cc nL G rm) (hd : decode cc pc = .ok (.getfield 87, 3)) (K : V E nL k n (wX G a S) (pc + 3) ls (.ref (a 30) :: st)) : V E nL k n (wX G a S) pc ls (.ref (a 0) :: st) := by
  obtain ⟨p, l, e, R, s, m, args, below, meth, c, Q, A, G'⟩ := E
  obtain ⟨hx, hb, hml, hown, hts, hK, hA, hlk, rfl, hGG, hW0⟩ := C
  subst G'
  exact fun H locs arr hP hD hS hl => va_get (D := G.1) (ci := 0) (v := .ref (a 30)) (C := RX0) (T := TX0) (N := 35) hx hb hts in_X0 hown hK hP 0 rfl rfl 30 (by decide) (hts _ q127) (fun _ h => h) rfl hd (K H locs arr hP hD hS hl)
theorem X_g31 (C : CxOk E RX0 cc nL G rm) (hd : decode cc pc = .ok (.getfield 345, 3)) (K : V E nL k n (wX G a S) (pc + 3) ls (.int (S.1 31) :: st)) : V E nL k n (wX G a S) pc ls (.ref (a 0) :: st) := by
  obtain ⟨p, l, e, R, s, m, args, below, meth, c, Q, A, G'⟩ := E
  obtain ⟨hx, hb, hml, hown, hts, hK, hA, hlk, rfl, hGG, hW0⟩ := C
  subst G'
  exact fun H locs arr hP hD hS hl => va_get (D := G.1) (ci := 0) (v := .int (S.1 31)) (C := RX0) (T := TX0) (N := 35) hx hb hts in_X0 hown hK hP 0 rfl rfl 31 (by decide) (hts _ q128) (fun _ h => h) rfl hd (K H locs arr hP hD hS hl)
theorem X_p31 {v : Int32} (C : CxOk E RX0 cc nL G rm) (hd : decode cc pc = .ok (.putfield 345, 3)) (K : V E nL k n (wX G a (setXi S 31 v)) (pc + 3) ls st) : V E nL k n (wX G a S) pc ls (.int v :: .ref (a 0) :: st) := by
  obtain ⟨p, l, e, R, s, m, args, below, meth, c, Q, A, G'⟩ := E
  obtain ⟨hx, hb, hml, hown, hts, hK, hA, hlk, rfl, hGG, hW0⟩ := C
  subst G'
  exact fun H locs arr hP hD hS hl => va_put (D := G.1) (ci := 0) (v := .int v) (ty := .int) (C := RX0) (T := TX0) (N := 35) hx hb hts in_X0 tyX0 tyX0_ok nmX0 hown hK hP hD hS 0 rfl rfl 31 (by decide) (hts _ q128) (fun _ h => h) rfl (by decide +kernel) rfl rfl (Nat.le_of_ble_eq_true rfl) hd (fun H locs hP hD hS => K H locs arr hP hD hS hl)
theorem X_g32 (C : CxOk E RX0 cc nL G rm) (hd : decode cc pc = .ok (.getfield 348, 3)) (K : V E nL k n (wX G a S) (pc + 3) ls (.int (S.1 32) :: st)) : V E nL k n (wX G a S) pc ls (.ref (a 0) :: st) := by
  obtain ⟨p, l, e, R, s, m, args, below, meth, c, Q, A, G'⟩ := E
  obtain ⟨hx, hb, hml, hown, hts, hK, hA, hlk, rfl, hGG, hW0⟩ := C
  subst G'
  exact fun H locs arr hP hD hS hl => va_get (D := G.1) (ci := 0) (v := .int (S.1 32)) (C := RX0) (T := TX0) (N := 35) hx hb hts in_X0 hown hK hP 0 rfl rfl 32 (by decide) (hts _ q129) (fun _ h => h) rfl hd (K H locs arr hP hD hS hl)
theorem X_p32 {v : Int32} (C : CxOk E RX0 cc nL G rm) (hd : decode cc pc = .ok (.putfield 348, 3)) (K : V E nL k n (wX G a (setXi S 32 v)) (pc + 3) ls st) : V E nL k n (wX G a S) pc ls (.int v :: .ref (a 0) :: st) := by
  obtain ⟨p, l, e, R, s, m, args, below, meth, c, Q, A, G'⟩ := E
  obtain ⟨hx, hb, hml, hown, hts, hK, hA, hlk, rfl, hGG, hW0⟩ := C
  subst G'
  exact fun H locs arr hP hD hS hl => va_put (D := G.1) (ci := 0) (v := .int v) (ty := .int) (C := RX0) (T := TX0) (N := 35) hx hb hts in_X0 tyX0 tyX0_ok nmX0 hown hK hP hD hS 0 rfl rfl 32 (by decide) (hts _ q129) (fun _ h => h) rfl (by decide +kernel) rfl rfl (Nat.le_of_ble_eq_true rfl) hd (fun H locs hP hD hS => K H locs arr hP hD hS hl)
theorem X_g33 (C : CxOk E RX0 cc nL G rm) (hd : decode cc pc = .ok (.getfield 90, 3)) (K : V E nL k n (wX G a S) (pc + 3) ls (.int (S.1 33) :: st)) : V E nL k n (wX G a S) pc ls (.ref (a 0) :: st) := by
  obtain ⟨p, l, e, R, s, m, args, below, meth, c, Q, A, G'⟩ := E
  obtain ⟨hx, hb, hml, hown, hts, hK, hA, hlk, rfl, hGG, hW0⟩ := C
  subst G'
  exact fun H locs arr hP hD hS hl => va_get (D := G.1) (ci := 0) (v := .int (S.1 33)) (C := RX0) (T := TX0) (N := 35) hx hb hts in_X0 hown hK hP 0 rfl rfl 33 (by decide) (hts _ q130) (fun _ h => h) rfl hd (K H locs arr hP hD hS hl)
theorem X_p33 {v : Int32} (C : CxOk E RX0 cc nL G rm) (hd : decode cc pc = .ok (.putfield 90, 3)) (K : V E nL k n (wX G a (setXi S 33 v)) (pc + 3) ls st) : V E nL k n (wX G a S) pc ls (.int v :: .ref (a 0) :: st) := by
  obtain ⟨p, l, e, R, s, m, args, below, meth, c, Q, A, G'⟩ := E
  obtain ⟨hx, hb, hml, hown, hts, hK, hA, hlk, rfl, hGG, hW0⟩ := C
  subst G'
  exact fun H locs arr hP hD hS hl => va_put (D := G.1) (ci := 0) (v := .int v) (ty := .int) (C := RX0) (T := TX0) (N := 35) hx hb hts in_X0 tyX0 tyX0_ok nmX0 hown hK hP hD hS 0 rfl rfl 33 (by decide) (hts _ q130) (fun _ h => h) rfl (by decide +kernel) rfl rfl (Nat.le_of_ble_eq_true rfl) hd (fun H locs hP hD hS => K H locs arr hP hD hS hl)
theorem X_g34 (C : CxOk E RX0 cc nL G rm) (hd : decode cc pc = .ok (.getfield 353, 3)) (K : V E nL k n (wX G a S) (pc + 3) ls (.long (S.2.1 34) :: st)) : V E nL k n (wX G a S) pc ls (.ref (a 0) :: st) := by
  obtain ⟨p, l, e, R, s, m, args, below, meth, c, Q, A, G'⟩ := E
  obtain ⟨hx, hb, hml, hown, hts, hK, hA, hlk, rfl, hGG, hW0⟩ := C
  subst G'
  exact fun H locs arr hP hD hS hl => va_get (D := G.1) (ci := 0) (v := .long (S.2.1 34)) (C := RX0) (T := TX0) (N := 35) hx hb hts in_X0 hown hK hP 0 rfl rfl 34 (by decide) (hts _ q131) (fun _ h => h) rfl hd (K H locs arr hP hD hS hl)
theorem X_p34 {v : Int64} (C : CxOk E RX0 cc nL G rm) (hd : decode cc pc = .ok (.putfield 353, 3)) (K : V E nL k n (wX G a (setXl S 34 v)) (pc + 3) ls st) : V E nL k n (wX G a S) pc ls (.long v :: .ref (a 0) :: st) := by
  obtain ⟨p, l, e, R, s, m, args, below, meth, c, Q, A, G'⟩ := E
  obtain ⟨hx, hb, hml, hown, hts, hK, hA, hlk, rfl, hGG, hW0⟩ := C
  subst G'
  exact fun H locs arr hP hD hS hl => va_put (D := G.1) (ci := 0) (v := .long v) (ty := .long) (C := RX0) (T := TX0) (N := 35) hx hb hts in_X0 tyX0 tyX0_ok nmX0 hown hK hP hD hS 0 rfl rfl 34 (by decide) (hts _ q131) (fun _ h => h) rfl (by decide +kernel) rfl rfl (Nat.le_of_ble_eq_true rfl) hd (fun H locs hP hD hS => K H locs arr hP hD hS hl)
theorem X_l3 {i : Int32} (C : CxOk E RX0 cc nL G rm) (hd : decode cc pc = .ok (.iaload, 1)) (hin : vp_in i 5) (K : V E nL k n (wX G a S) (pc + 1) ls (.int (S.2.2.1 3 i.toNatClampNeg) :: st)) : V E nL k n (wX G a S) pc ls (.int i :: .ref (a 3) :: st) := by
  obtain ⟨p, l, e, R, s, m, args, below, meth, c, Q, A, G'⟩ := E
  obtain ⟨hx, hb, hml, hown, hts, hK, hA, hlk, rfl, hGG, hW0⟩ := C
  subst G'
  exact fun H locs arr hP hD hS hl => va_iald hx hb hK hP 1 0 rfl rfl hin hd (K H locs arr hP hD hS hl)
theorem X_s3 {i x : Int32} (C : CxOk E RX0 cc nL G rm) (hd : decode cc pc = .ok (.iastore, 1)) (hin : vp_in i 5) (K : V E nL k n (wX G a (setXa S 3 (upd (S.2.2.1 3) i.toNatClampNeg x))) (pc + 1) ls st) : V E nL k n (wX G a S) pc ls (.int x :: .int i :: .ref (a 3) :: st) := by
  obtain ⟨p, l, e, R, s, m, args, below, meth, c, Q, A, G'⟩ := E
  obtain ⟨hx, hb, hml, hown, hts, hK, hA, hlk, rfl, hGG, hW0⟩ := C
  subst G'
  exact fun H locs arr hP hD hS hl => va_iast hx hb hK hP hD hS 1 0 rfl rfl hin hd (fun H locs hP hD hS => K H locs arr hP hD hS hl)
theorem X_n3 (C : CxOk E RX0 cc nL G rm) (hd : decode cc pc = .ok (.arraylength, 1)) (K : V E nL k n (wX G a S) (pc + 1) ls (.int 5 :: st)) : V E nL k n (wX G a S) pc ls (.ref (a 3) :: st) := by
  obtain ⟨p, l, e, R, s, m, args, below, meth, c, Q, A, G'⟩ := E
  obtain ⟨hx, hb, hml, hown, hts, hK, hA, hlk, rfl, hGG, hW0⟩ := C
  subst G'
  exact fun H locs arr hP hD hS hl => va_alen (v := 5) hx hb hK hP 1 0 rfl rfl rfl hd (K H locs arr hP hD hS hl)
theorem X_l4 {i : Int32} (C : CxOk E RX0 cc nL G rm) (hd : decode cc pc = .ok (.iaload, 1)) (hin : vp_in i 5) (K : V E nL k n (wX G a S) (pc + 1) ls (.int (S.2.2.1 4 i.toNatClampNeg) :: st)) : V E nL k n (wX G a S) pc ls (.int i :: .ref (a 4) :: st) := by
  obtain ⟨p, l, e, R, s, m, args, below, meth, c, Q, A, G'⟩ := E
  obtain ⟨hx, hb, hml, hown, hts, hK, hA, hlk, rfl, hGG, hW0⟩ := C
  subst G'
  exact fun H locs arr hP hD hS hl => va_iald hx hb hK hP 2 0 rfl rfl hin hd (K H locs arr hP hD hS hl)
theorem X_s4 {i x : Int32} (C : CxOk E RX0 cc nL G rm) (hd : decode cc pc = .ok (.iastore, 1)) (hin : vp_in i 5) (K : V E nL k n (wX G a (setXa S 4 (upd (S.2.2.1 4) i.toNatClampNeg x))) (pc + 1) ls st) : V E nL k n (wX G a S) pc ls (.int x :: .int i :: .ref (a 4) :: st) := by
  obtain ⟨p, l, e, R, s, m, args, below, meth, c, Q, A, G'⟩ := E
  obtain ⟨hx, hb, hml, hown, hts, hK, hA, hlk, rfl, hGG, hW0⟩ := C
  subst G'
  exact fun H locs arr hP hD hS hl => va_iast hx hb hK hP hD hS 2 0 rfl rfl hin hd (fun H locs hP hD hS => K H locs arr hP hD hS hl)
theorem X_n4 (C : CxOk E RX0 cc nL G rm) (hd : decode cc pc = .ok (.arraylength, 1)) (K : V E nL k n (wX G a S) (pc + 1) ls (.int 5 :: st)) : V E nL k n (wX G a S) pc ls (.ref (a 4) :: st) := by
  obtain ⟨p, l, e, R, s, m, args, below, meth, c, Q, A, G'⟩ := E
  obtain ⟨hx, hb, hml, hown, hts, hK, hA, hlk, rfl, hGG, hW0⟩ := C
  subst G'
  exact fun H locs arr hP hD hS hl => va_alen (v := 5) hx hb hK hP 2 0 rfl rfl rfl hd (K H locs arr hP hD hS hl)
theorem X_l5 {i : Int32} (C : CxOk E RX0 cc nL G rm) (hd : decode cc pc = .ok (.iaload, 1)) (hin : vp_in i 3) (K : V E nL k n (wX G a S) (pc + 1) ls (.int (S.2.2.1 5 i.toNatClampNeg) :: st)) : V E nL k n (wX G a S) pc ls (.int i :: .ref (a 5) :: st) := by
  obtain ⟨p, l, e, R, s, m, args, below, meth, c, Q, A, G'⟩ := E
  obtain ⟨hx, hb, hml, hown, hts, hK, hA, hlk, rfl, hGG, hW0⟩ := C
  subst G'
  exact fun H locs arr hP hD hS hl => va_iald hx hb hK hP 3 0 rfl rfl hin hd (K H locs arr hP hD hS hl)
theorem X_s5 {i x : Int32} (C : CxOk E RX0 cc nL G rm) (hd : decode cc pc = .ok (.iastore, 1)) (hin : vp_in i 3) (K : V E nL k n (wX G a (setXa S 5 (upd (S.2.2.1 5) i.toNatClampNeg x))) (pc + 1) ls st) : V E nL k n (wX G a S) pc ls (.int x :: .int i :: .ref (a 5) :: st) := by
  obtain ⟨p, l, e, R, s, m, args, below, meth, c, Q, A, G'⟩ := E
  obtain ⟨hx, hb, hml, hown, hts, hK, hA, hlk, rfl, hGG, hW0⟩ := C
  subst G'
  exact fun H locs arr hP hD hS hl => va_iast hx hb hK hP hD hS 3 0 rfl rfl hin hd (fun H locs hP hD hS => K H locs arr hP hD hS hl)
theorem X_n5 (C : CxOk E RX0 cc nL G rm) (hd : decode cc pc = .ok (.arraylength, 1)) (K : V E nL k n (wX G a S) (pc + 1) ls (.int 3 :: st)) : V E nL k n (wX G a S) pc ls (.ref (a 5) :: st) := by
  obtain ⟨p, l, e, R, s, m, args, below, meth, c, Q, A, G'⟩ := E
  obtain ⟨hx, hb, hml, hown, hts, hK, hA, hlk, rfl, hGG, hW0⟩ := C
  subst G'
  exact fun H locs arr hP hD hS hl => va_alen (v := 3) hx hb hK hP 3 0 rfl rfl rfl hd (K H locs arr hP hD hS hl)
theorem X_l8 {i : Int32} (C : CxOk E RX0 cc nL G rm) (hd : decode cc pc = .ok (.iaload, 1)) (hin : vp_in i 9) (K : V E nL k n (wX G a S) (pc + 1) ls (.int (S.2.2.1 8 i.toNatClampNeg) :: st)) : V E nL k n (wX G a S) pc ls (.int i :: .ref (a 8) :: st) := by
  obtain ⟨p, l, e, R, s, m, args, below, meth, c, Q, A, G'⟩ := E
  obtain ⟨hx, hb, hml, hown, hts, hK, hA, hlk, rfl, hGG, hW0⟩ := C
  subst G'
  exact fun H locs arr hP hD hS hl => va_iald hx hb hK hP 5 0 rfl rfl hin hd (K H locs arr hP hD hS hl)
theorem X_s8 {i x : Int32} (C : CxOk E RX0 cc nL G rm) (hd : decode cc pc = .ok (.iastore, 1)) (hin : vp_in i 9) (K : V E nL k n (wX G a (setXa S 8 (upd (S.2.2.1 8) i.toNatClampNeg x))) (pc + 1) ls st) : V E nL k n (wX G a S) pc ls (.int x :: .int i :: .ref (a 8) :: st) := by
  obtain ⟨p, l, e, R, s, m, args, below, meth, c, Q, A, G'⟩ := E
  obtain ⟨hx, hb, hml, hown, hts, hK, hA, hlk, rfl, hGG, hW0⟩ := C
  subst G'
  exact fun H locs arr hP hD hS hl => va_iast hx hb hK hP hD hS 5 0 rfl rfl hin hd (fun H locs hP hD hS => K H locs arr hP hD hS hl)
theorem X_n8 (C : CxOk E RX0 cc nL G rm) (hd : decode cc pc = .ok (.arraylength, 1)) (K : V E nL k n (wX G a S) (pc + 1) ls (.int 9 :: st)) : V E nL k n (wX G a S) pc ls (.ref (a 8) :: st) := by
  obtain ⟨p, l, e, R, s, m, args, below, meth, c, Q, A, G'⟩ := E
  obtain ⟨hx, hb, hml, hown, hts, hK, hA, hlk, rfl, hGG, hW0⟩ := C
  subst G'
  exact fun H locs arr hP hD hS hl => va_alen (v := 9) hx hb hK hP 5 0 rfl rfl rfl hd (K H locs arr hP hD hS hl)
theorem X_l9 {i : Int32} (C : CxOk E RX0 cc nL G rm) (hd : decode cc pc = .ok (.iaload, 1)) (hin : vp_in i 18) (K : V E nL k n (wX G a S) (pc + 1) ls (.int (S.2.2.1 9 i.toNatClampNeg) :: st)) : V E nL k n (wX G a S) pc ls (.int i :: .ref (a 9) :: st) := by
  obtain ⟨p, l, e, R, s, m, args, below, meth, c, Q, A, G'⟩ := E
  obtain ⟨hx, hb, hml, hown, hts, hK, hA, hlk, rfl, hGG, hW0⟩ := C
  subst G'
  exact fun H locs arr hP hD hS hl => va_iald hx hb hK hP 6 0 rfl rfl hin hd (K H locs arr hP hD hS hl)
theorem X_s9 {i x : Int32} (C : CxOk E RX0 cc nL G rm) (hd : decode cc pc = .ok (.iastore, 1)) (hin : vp_in i 18) (K : V E nL k n (wX G a (setXa S 9 (upd (S.2.2.1 9) i.toNatClampNeg x))) (pc + 1) ls st) : V E nL k n (wX G a S) pc ls (.int x :: .int i :: .ref (a 9) :: st) := by
  obtain ⟨p, l, e, R, s, m, args, below, meth, c, Q, A, G'⟩ := E
  obtain ⟨hx, hb, hml, hown, hts, hK, hA, hlk, rfl, hGG, hW0⟩ := C
  subst G'
  exact fun H locs arr hP hD hS hl => va_iast hx hb hK hP hD hS 6 0 rfl rfl hin hd (fun H locs hP hD hS => K H locs arr hP hD hS hl)
theorem X_n9 (C : CxOk E RX0 cc nL G rm) (hd : decode cc pc = .ok (.arraylength, 1)) (K : V E nL k n (wX G a S) (pc + 1) ls (.int 18 :: st)) : V E nL k n (wX G a S) pc ls (.ref (a 9) :: st) := by
  obtain ⟨p, l, e, R, s, m, args, below, meth, c, Q, A, G'⟩ := E
  obtain ⟨hx, hb, hml, hown, hts, hK, hA, hlk, rfl, hGG, hW0⟩ := C
  subst G'
  exact fun H locs arr hP hD hS hl => va_alen (v := 18) hx hb hK hP 6 0 rfl rfl rfl hd (K H locs arr hP hD hS hl)
theorem X_l12 {i : Int32} (C : CxOk E RX0 cc nL G rm) (hd : decode cc pc = .ok (.iaload, 1)) (hin : vp_in i 5) (K : V E nL k n (wX G a S) (pc + 1) ls (.int (S.2.2.1 12 i.toNatClampNeg) :: st)) : V E nL k n (wX G a S) pc ls (.int i :: .ref (a 12) :: st) := by
  obtain ⟨p, l, e, R, s, m, args, below, meth, c, Q, A, G'⟩ := E
  obtain ⟨hx, hb, hml, hown, hts, hK, hA, hlk, rfl, hGG, hW0⟩ := C
  subst G'
  exact fun H locs arr hP hD hS hl => va_iald hx hb hK hP 7 0 rfl rfl hin hd (K H locs arr hP hD hS hl)
theorem X_s12 {i x : Int32} (C : CxOk E RX0 cc nL G rm) (hd : decode cc pc = .ok (.iastore, 1)) (hin : vp_in i 5) (K : V E nL k n (wX G a (setXa S 12 (upd (S.2.2.1 12) i.toNatClampNeg x))) (pc + 1) ls st) : V E nL k n (wX G a S) pc ls (.int x :: .int i :: .ref (a 12) :: st) := by
  obtain ⟨p, l, e, R, s, m, args, below, meth, c, Q, A, G'⟩ := E
  obtain ⟨hx, hb, hml, hown, hts, hK, hA, hlk, rfl, hGG, hW0⟩ := C
  subst G'
  exact fun H locs arr hP hD hS hl => va_iast hx hb hK hP hD hS 7 0 rfl rfl hin hd (fun H locs hP hD hS => K H locs arr hP hD hS hl)
theorem X_n12 (C : CxOk E RX0 cc nL G rm) (hd : decode cc pc = .ok (.arraylength, 1)) (K : V E nL k n (wX G a S) (pc + 1) ls (.int 5 :: st)) : V E nL k n (wX G a S) pc ls (.ref (a 12) :: st) := by
  obtain ⟨p, l, e, R, s, m, args, below, meth, c, Q, A, G'⟩ := E
  obtain ⟨hx, hb, hml, hown, hts, hK, hA, hlk, rfl, hGG, hW0⟩ := C
  subst G'
  exact fun H locs arr hP hD hS hl => va_alen (v := 5) hx hb hK hP 7 0 rfl rfl rfl hd (K H locs arr hP hD hS hl)
theorem X_l13 {i : Int32} (C : CxOk E RX0 cc nL G rm) (hd : decode cc pc = .ok (.iaload, 1)) (hin : vp_in i 5) (K : V E nL k n (wX G a S) (pc + 1) ls (.int (S.2.2.1 13 i.toNatClampNeg) :: st)) : V E nL k n (wX G a S) pc ls (.int i :: .ref (a 13) :: st) := by
  obtain ⟨p, l, e, R, s, m, args, below, meth, c, Q, A, G'⟩ := E
  obtain ⟨hx, hb, hml, hown, hts, hK, hA, hlk, rfl, hGG, hW0⟩ := C
  subst G'
  exact fun H locs arr hP hD hS hl => va_iald hx hb hK hP 8 0 rfl rfl hin hd (K H locs arr hP hD hS hl)
theorem X_s13 {i x : Int32} (C : CxOk E RX0 cc nL G rm) (hd : decode cc pc = .ok (.iastore, 1)) (hin : vp_in i 5) (K : V E nL k n (wX G a (setXa S 13 (upd (S.2.2.1 13) i.toNatClampNeg x))) (pc + 1) ls st) : V E nL k n (wX G a S) pc ls (.int x :: .int i :: .ref (a 13) :: st) := by
  obtain ⟨p, l, e, R, s, m, args, below, meth, c, Q, A, G'⟩ := E
  obtain ⟨hx, hb, hml, hown, hts, hK, hA, hlk, rfl, hGG, hW0⟩ := C
  subst G'
  exact fun H locs arr hP hD hS hl => va_iast hx hb hK hP hD hS 8 0 rfl rfl hin hd (fun H locs hP hD hS => K H locs arr hP hD hS hl)
theorem X_n13 (C : CxOk E RX0 cc nL G rm) (hd : decode cc pc = .ok (.arraylength, 1)) (K : V E nL k n (wX G a S) (pc + 1) ls (.int 5 :: st)) : V E nL k n (wX G a S) pc ls (.ref (a 13) :: st) := by
  obtain ⟨p, l, e, R, s, m, args, below, meth, c, Q, A, G'⟩ := E
  obtain ⟨hx, hb, hml, hown, hts, hK, hA, hlk, rfl, hGG, hW0⟩ := C
  subst G'
  exact fun H locs arr hP hD hS hl => va_alen (v := 5) hx hb hK hP 8 0 rfl rfl rfl hd (K H locs arr hP hD hS hl)
theorem X_l16 {i : Int32} (C : CxOk E RX0 cc nL G rm) (hd : decode cc pc = .ok (.iaload, 1)) (hin : vp_in i 3) (K : V E nL k n (wX G a S) (pc + 1) ls (.int (S.2.2.1 16 i.toNatClampNeg) :: st)) : V E nL k n (wX G a S) pc ls (.int i :: .ref (a 16) :: st) := by
  obtain ⟨p, l, e, R, s, m, args, below, meth, c, Q, A, G'⟩ := E
  obtain ⟨hx, hb, hml, hown, hts, hK, hA, hlk, rfl, hGG, hW0⟩ := C
  subst G'
  exact fun H locs arr hP hD hS hl => va_iald hx hb hK hP 9 0 rfl rfl hin hd (K H locs arr hP hD hS hl)
theorem X_s16 {i x : Int32} (C : CxOk E RX0 cc nL G rm) (hd : decode cc pc = .ok (.iastore, 1)) (hin : vp_in i 3) (K : V E nL k n (wX G a (setXa S 16 (upd (S.2.2.1 16) i.toNatClampNeg x))) (pc + 1) ls st) : V E nL k n (wX G a S) pc ls (.int x :: .int i :: .ref (a 16) :: st) := by
  obtain ⟨p, l, e, R, s, m, args, below, meth, c, Q, A, G'⟩ := E
  obtain ⟨hx, hb, hml, hown, hts, hK, hA, hlk, rfl, hGG, hW0⟩ := C
  subst G'
  exact fun H locs arr hP hD hS hl => va_iast hx hb hK hP hD hS 9 0 rfl rfl hin hd (fun H locs hP hD hS => K H locs arr hP hD hS hl)
theorem X_n16 (C : CxOk E RX0 cc nL G rm) (hd : decode cc pc = .ok (.arraylength, 1)) (K : V E nL k n (wX G a S) (pc + 1) ls (.int 3 :: st)) : V E nL k n (wX G a S) pc ls (.ref (a 16) :: st) := by
  obtain ⟨p, l, e, R, s, m, args, below, meth, c, Q, A, G'⟩ := E
  obtain ⟨hx, hb, hml, hown, hts, hK, hA, hlk, rfl, hGG, hW0⟩ := C
  subst G'
  exact fun H locs arr hP hD hS hl => va_alen (v := 3) hx hb hK hP 9 0 rfl rfl rfl hd (K H locs arr hP hD hS hl)
theorem X_l17 {i : Int32} (C : CxOk E RX0 cc nL G rm) (hd : decode cc pc = .ok (.iaload, 1)) (hin : vp_in i 3) (K : V E nL k n (wX G a S) (pc + 1) ls (.int (S.2.2.1 17 i.toNatClampNeg) :: st)) : V E nL k n (wX G a S) pc ls (.int i :: .ref (a 17) :: st) := by
  obtain ⟨p, l, e, R, s, m, args, below, meth, c, Q, A, G'⟩ := E
  obtain ⟨hx, hb, hml, hown, hts, hK, hA, hlk, rfl, hGG, hW0⟩ := C
  subst G'
  exact fun H locs arr hP hD hS hl => va_iald hx hb hK hP 10 0 rfl rfl hin hd (K H locs arr hP hD hS hl)
theorem X_s17 {i x : Int32} (C : CxOk E RX0 cc nL G rm) (hd : decode cc pc = .ok (.iastore, 1)) (hin : vp_in i 3) (K : V E nL k n (wX G a (setXa S 17 (upd (S.2.2.1 17) i.toNatClampNeg x))) (pc + 1) ls st) : V E nL k n (wX G a S) pc ls (.int x :: .int i :: .ref (a 17) :: st) := by
  obtain ⟨p, l, e, R, s, m, args, below, meth, c, Q, A, G'⟩ := E
  obtain ⟨hx, hb, hml, hown, hts, hK, hA, hlk, rfl, hGG, hW0⟩ := C
  subst G'
  exact fun H locs arr hP hD hS hl => va_iast hx hb hK hP hD hS 10 0 rfl rfl hin hd (fun H locs hP hD hS => K H locs arr hP hD hS hl)
theorem X_n17 (C : CxOk E RX0 cc nL G rm) (hd : decode cc pc = .ok (.arraylength, 1)) (K : V E nL k n (wX G a S) (pc + 1) ls (.int 3 :: st)) : V E nL k n (wX G a S) pc ls (.ref (a 17) :: st) := by
  obtain ⟨p, l, e, R, s, m, args, below, meth, c, Q, A, G'⟩ := E
  obtain ⟨hx, hb, hml, hown, hts, hK, hA, hlk, rfl, hGG, hW0⟩ := C
  subst G'
  exact fun H locs arr hP hD hS hl => va_alen (v := 3) hx hb hK hP 10 0 rfl rfl rfl hd (K H locs arr hP hD hS hl)
theorem X_l18 {i : Int32} (C : CxOk E RX0 cc nL G rm) (hd : decode cc pc = .ok (.iaload, 1)) (hin : vp_in i 6) (K : V E nL k n (wX G a S) (pc + 1) ls (.int (S.2.2.1 18 i.toNatClampNeg) :: st)) : V E nL k n (wX G a S) pc ls (.int i :: .ref (a 18) :: st) := by
  obtain ⟨p, l, e, R, s, m, args, below, meth, c, Q, A, G'⟩ := E
  obtain ⟨hx, hb, hml, hown, hts, hK, hA, hlk, rfl, hGG, hW0⟩ := C
  subst G'
  exact fun H locs arr hP hD hS hl => va_iald hx hb hK hP 11 0 rfl rfl hin hd (K H locs arr hP hD hS hl)
theorem X_s18 {i x : Int32} (C : CxOk E RX0 cc nL G rm) (hd : decode cc pc = .ok (.iastore, 1)) (hin : vp_in i 6) (K : V E nL k n (wX G a (setXa S 18 (upd (S.2.2.1 18) i.toNatClampNeg x))) (pc + 1) ls st) : V E nL k n (wX G a S) pc ls (.int x :: .int i :: .ref (a 18) :: st) := by
  obtain ⟨p, l, e, R, s, m, args, below, meth, c, Q, A, G'⟩ := E
  obtain ⟨hx, hb, hml, hown, hts, hK, hA, hlk, rfl, hGG, hW0⟩ := C
  subst G'
  exact fun H locs arr hP hD hS hl => va_iast hx hb hK hP hD hS 11 0 rfl rfl hin hd (fun H locs hP hD hS => K H locs arr hP hD hS hl)
theorem X_n18 (C : CxOk E RX0 cc nL G rm) (hd : decode cc pc = .ok (.arraylength, 1)) (K : V E nL k n (wX G a S) (pc + 1) ls (.int 6 :: st)) : V E nL k n (wX G a S) pc ls (.ref (a 18) :: st) := by
  obtain ⟨p, l, e, R, s, m, args, below, meth, c, Q, A, G'⟩ := E
  obtain ⟨hx, hb, hml, hown, hts, hK, hA, hlk, rfl, hGG, hW0⟩ := C
  subst G'
  exact fun H locs arr hP hD hS hl => va_alen (v := 6) hx hb hK hP 11 0 rfl rfl rfl hd (K H locs arr hP hD hS hl)
theorem X_l19 {i : Int32} (C : CxOk E RX0 cc nL G rm) (hd : decode cc pc = .ok (.iaload, 1)) (hin : vp_in i 6) (K : V E nL k n (wX G a S) (pc + 1) ls (.int (S.2.2.1 19 i.toNatClampNeg) :: st)) : V E nL k n (wX G a S) pc ls (.int i :: .ref (a 19) :: st) := by
  obtain ⟨p, l, e, R, s, m, args, below, meth, c, Q, A, G'⟩ := E
  obtain ⟨hx, hb, hml, hown, hts, hK, hA, hlk, rfl, hGG, hW0⟩ := C
  subst G'
  exact fun H locs arr hP hD hS hl => va_iald hx hb hK hP 12 0 rfl rfl hin hd (K H locs arr hP hD hS hl)
theorem X_s19 {i x : Int32} (C : CxOk E RX0 cc nL G rm) (hd : decode cc pc = .ok (.iastore, 1)) (hin : vp_in i 6) (K : V E nL k n (wX G a (setXa S 19 (upd (S.2.2.1 19) i.toNatClampNeg x))) (pc + 1) ls st) : V E nL k n (wX G a S) pc ls (.int x :: .int i :: .ref (a 19) :: st) := by
  obtain ⟨p, l, e, R, s, m, args, below, meth, c, Q, A, G'⟩ := E
  obtain ⟨hx, hb, hml, hown, hts, hK, hA, hlk, rfl, hGG, hW0⟩ := C
  subst G'
  exact fun H locs arr hP hD hS hl => va_iast hx hb hK hP hD hS 12 0 rfl rfl hin hd (fun H locs hP hD hS => K H locs arr hP hD hS hl)
theorem X_n19 (C : CxOk E RX0 cc nL G rm) (hd : decode cc pc = .ok (.arraylength, 1)) (K : V E nL k n (wX G a S) (pc + 1) ls (.int 6 :: st)) : V E nL k n (wX G a S) pc ls (.ref (a 19) :: st) := by
  obtain ⟨p, l, e, R, s, m, args, below, meth, c, Q, A, G'⟩ := E
  obtain ⟨hx, hb, hml, hown, hts, hK, hA, hlk, rfl, hGG, hW0⟩ := C
  subst G'
  exact fun H locs arr hP hD hS hl => va_alen (v := 6) hx hb hK hP 12 0 rfl rfl rfl hd (K H locs arr hP hD hS hl)
theorem X_l20 {i : Int32} (C : CxOk E RX0 cc nL G rm) (hd : decode cc pc = .ok (.baload, 1)) (hin : vp_in i 6) (K : V E nL k n (wX G a S) (pc + 1) ls (.int (S.2.2.1 20 i.toNatClampNeg) :: st)) : V E nL k n (wX G a S) pc ls (.int i :: .ref (a 20) :: st) := by
  obtain ⟨p, l, e, R, s, m, args, below, meth, c, Q, A, G'⟩ := E
  obtain ⟨hx, hb, hml, hown, hts, hK, hA, hlk, rfl, hGG, hW0⟩ := C
  subst G'
  exact fun H locs arr hP hD hS hl => va_zald hx hb hK hP 13 1 rfl rfl hin hd (K H locs arr hP hD hS hl)
theorem X_s20 {i x : Int32} (C : CxOk E RX0 cc nL G rm) (hd : decode cc pc = .ok (.bastore, 1)) (hin : vp_in i 6) (K : V E nL k n (wX G a (setXa S 20 (upd (S.2.2.1 20) i.toNatClampNeg (vp_nar .boolean x)))) (pc + 1) ls st) : V E nL k n (wX G a S) pc ls (.int x :: .int i :: .ref (a 20) :: st) := by
  obtain ⟨p, l, e, R, s, m, args, below, meth, c, Q, A, G'⟩ := E
  obtain ⟨hx, hb, hml, hown, hts, hK, hA, hlk, rfl, hGG, hW0⟩ := C
  subst G'
  exact fun H locs arr hP hD hS hl => va_zast hx hb hK hP hD hS 13 1 rfl rfl hin hd (fun H locs hP hD hS => K H locs arr hP hD hS hl)
theorem X_n20 (C : CxOk E RX0 cc nL G rm) (hd : decode cc pc = .ok (.arraylength, 1)) (K : V E nL k n (wX G a S) (pc + 1) ls (.int 6 :: st)) : V E nL k n (wX G a S) pc ls (.ref (a 20) :: st) := by
  obtain ⟨p, l, e, R, s, m, args, below, meth, c, Q, A, G'⟩ := E
  obtain ⟨hx, hb, hml, hown, hts, hK, hA, hlk, rfl, hGG, hW0⟩ := C
  subst G'
  exact fun H locs arr hP hD hS hl => va_alen (v := 6) hx hb hK hP 13 1 rfl rfl rfl hd (K H locs arr hP hD hS hl)
theorem X_l23 {i : Int32} (C : CxOk E RX0 cc nL G rm) (hd : decode cc pc = .ok (.iaload, 1)) (hin : vp_in i 9) (K : V E nL k n (wX G a S) (pc + 1) ls (.int (S.2.2.1 23 i.toNatClampNeg) :: st)) : V E nL k n (wX G a S) pc ls (.int i :: .ref (a 23) :: st) := by
  obtain ⟨p, l, e, R, s, m, args, below, meth, c, Q, A, G'⟩ := E
  obtain ⟨hx, hb, hml, hown, hts, hK, hA, hlk, rfl, hGG, hW0⟩ := C
  subst G'
  exact fun H locs arr hP hD hS hl => va_iald hx hb hK hP 14 0 rfl rfl hin hd (K H locs arr hP hD hS hl)
theorem X_s23 {i x : Int32} (C : CxOk E RX0 cc nL G rm) (hd : decode cc pc = .ok (.iastore, 1)) (hin : vp_in i 9) (K : V E nL k n (wX G a (setXa S 23 (upd (S.2.2.1 23) i.toNatClampNeg x))) (pc + 1) ls st) : V E nL k n (wX G a S) pc ls (.int x :: .int i :: .ref (a 23) :: st) := by
  obtain ⟨p, l, e, R, s, m, args, below, meth, c, Q, A, G'⟩ := E
  obtain ⟨hx, hb, hml, hown, hts, hK, hA, hlk, rfl, hGG, hW0⟩ := C
  subst G'
  exact fun H locs arr hP hD hS hl => va_iast hx hb hK hP hD hS 14 0 rfl rfl hin hd (fun H locs hP hD hS => K H locs arr hP hD hS hl)
theorem X_n23 (C : CxOk E RX0 cc nL G rm) (hd : decode cc pc = .ok (.arraylength, 1)) (K : V E nL k n (wX G a S) (pc + 1) ls (.int 9 :: st)) : V E nL k n (wX G a S) pc ls (.ref (a 23) :: st) := by
  obtain ⟨p, l, e, R, s, m, args, below, meth, c, Q, A, G'⟩ := E
  obtain ⟨hx, hb, hml, hown, hts, hK, hA, hlk, rfl, hGG, hW0⟩ := C
  subst G'
  exact fun H locs arr hP hD hS hl => va_alen (v := 9) hx hb hK hP 14 0 rfl rfl rfl hd (K H locs arr hP hD hS hl)
theorem X_l24 {i : Int32} (C : CxOk E RX0 cc nL G rm) (hd : decode cc pc = .ok (.iaload, 1)) (hin : vp_in i 3) (K : V E nL k n (wX G a S) (pc + 1) ls (.int (S.2.2.1 24 i.toNatClampNeg) :: st)) : V E nL k n (wX G a S) pc ls (.int i :: .ref (a 24) :: st) := by
  obtain ⟨p, l, e, R, s, m, args, below, meth, c, Q, A, G'⟩ := E
  obtain ⟨hx, hb, hml, hown, hts, hK, hA, hlk, rfl, hGG, hW0⟩ := C
  subst G'
  exact fun H locs arr hP hD hS hl => va_iald hx hb hK hP 15 0 rfl rfl hin hd (K H locs arr hP hD hS hl)
theorem X_s24 {i x : Int32} (C : CxOk E RX0 cc nL G rm) (hd : decode cc pc = .ok (.iastore, 1)) (hin : vp_in i 3) (K : V E nL k n (wX G a (setXa S 24 (upd (S.2.2.1 24) i.toNatClampNeg x))) (pc + 1) ls st) : V E nL k n (wX G a S) pc ls (.int x :: .int i :: .ref (a 24) :: st) := by
  obtain ⟨p, l, e, R, s, m, args, below, meth, c, Q, A, G'⟩ := E
  obtain ⟨hx, hb, hml, hown, hts, hK, hA, hlk, rfl, hGG, hW0⟩ := C
  subst G'
  exact fun H locs arr hP hD hS hl => va_iast hx hb hK hP hD hS 15 0 rfl rfl hin hd (fun H locs hP hD hS => K H locs arr hP hD hS hl)
theorem X_n24 (C : CxOk E RX0 cc nL G rm) (hd : decode cc pc = .ok (.arraylength, 1)) (K : V E nL k n (wX G a S) (pc + 1) ls (.int 3 :: st)) : V E nL k n (wX G a S) pc ls (.ref (a 24) :: st) := by
  obtain ⟨p, l, e, R, s, m, args, below, meth, c, Q, A, G'⟩ := E
  obtain ⟨hx, hb, hml, hown, hts, hK, hA, hlk, rfl, hGG, hW0⟩ := C
  subst G'
  exact fun H locs arr hP hD hS hl => va_alen (v := 3) hx hb hK hP 15 0 rfl rfl rfl hd (K H locs arr hP hD hS hl)
theorem X_l25 {i : Int32} (C : CxOk E RX0 cc nL G rm) (hd : decode cc pc = .ok (.iaload, 1)) (hin : vp_in i 3) (K : V E nL k n (wX G a S) (pc + 1) ls (.int (S.2.2.1 25 i.toNatClampNeg) :: st)) : V E nL k n (wX G a S) pc ls (.int i :: .ref (a 25) :: st) := by
  obtain ⟨p, l, e, R, s, m, args, below, meth, c, Q, A, G'⟩ := E
  obtain ⟨hx, hb, hml, hown, hts, hK, hA, hlk, rfl, hGG, hW0⟩ := C
  subst G'
  exact fun H locs arr hP hD hS hl => va_iald hx hb hK hP 16 0 rfl rfl hin hd (K H locs arr hP hD hS hl)
theorem X_s25 {i x : Int32} (C : CxOk E RX0 cc nL G rm) (hd : decode cc pc = .ok (.iastore, 1)) (hin : vp_in i 3) (K : V E nL k n (wX G a (setXa S 25 (upd (S.2.2.1 25) i.toNatClampNeg x))) (pc + 1) ls st) : V E nL k n (wX G a S) pc ls (.int x :: .int i :: .ref (a 25) :: st) := by
  obtain ⟨p, l, e, R, s, m, args, below, meth, c, Q, A, G'⟩ := E
  obtain ⟨hx, hb, hml, hown, hts, hK, hA, hlk, rfl, hGG, hW0⟩ := C
  subst G'
  exact fun H locs arr hP hD hS hl => va_iast hx hb hK hP hD hS 16 0 rfl rfl hin hd (fun H locs hP hD hS => K H locs arr hP hD hS hl)
theorem X_n25 (C : CxOk E RX0 cc nL G rm) (hd : decode cc pc = .ok (.arraylength, 1)) (K : V E nL k n (wX G a S) (pc + 1) ls (.int 3 :: st)) : V E nL k n (wX G a S) pc ls (.ref (a 25) :: st) := by
  obtain ⟨p, l, e, R, s, m, args, below, meth, c, Q, A, G'⟩ := E
  obtain ⟨hx, hb, hml, hown, hts, hK, hA, hlk, rfl, hGG, hW0⟩ := C
  subst G'
  exact fun H locs arr hP hD hS hl => va_alen (v := 3) hx hb hK hP 16 0 rfl rfl rfl hd (K H locs arr hP hD hS hl)
theorem X_l26 {i : Int32} (C : CxOk E RX0 cc nL G rm) (hd : decode cc pc = .ok (.iaload, 1)) (hin : vp_in i 9) (K : V E nL k n (wX G a S) (pc + 1) ls (.int (S.2.2.1 26 i.toNatClampNeg) :: st)) : V E nL k n (wX G a S) pc ls (.int i :: .ref (a 26) :: st) := by
  obtain ⟨p, l, e, R, s, m, args, below, meth, c, Q, A, G'⟩ := E
  obtain ⟨hx, hb, hml, hown, hts, hK, hA, hlk, rfl, hGG, hW0⟩ := C
  subst G'
  exact fun H locs arr hP hD hS hl => va_iald hx hb hK hP 17 0 rfl rfl hin hd (K H locs arr hP hD hS hl)
theorem X_s26 {i x : Int32} (C : CxOk E RX0 cc nL G rm) (hd : decode cc pc = .ok (.iastore, 1)) (hin : vp_in i 9) (K : V E nL k n (wX G a (setXa S 26 (upd (S.2.2.1 26) i.toNatClampNeg x))) (pc + 1) ls st) : V E nL k n (wX G a S) pc ls (.int x :: .int i :: .ref (a 26) :: st) := by
  obtain ⟨p, l, e, R, s, m, args, below, meth, c, Q, A, G'⟩ := E
  obtain ⟨hx, hb, hml, hown, hts, hK, hA, hlk, rfl, hGG, hW0⟩ := C
  subst G'
  exact fun H locs arr hP hD hS hl => va_iast hx hb hK hP hD hS 17 0 rfl rfl hin hd (fun H locs hP hD hS => K H locs arr hP hD hS hl)
theorem X_n26 (C : CxOk E RX0 cc nL G rm) (hd : decode cc pc = .ok (.arraylength, 1)) (K : V E nL k n (wX G a S) (pc + 1) ls (.int 9 :: st)) : V E nL k n (wX G a S) pc ls (.ref (a 26) :: st) := by
  obtain ⟨p, l, e, R, s, m, args, below, meth, c, Q, A, G'⟩ := E
  obtain ⟨hx, hb, hml, hown, hts, hK, hA, hlk, rfl, hGG, hW0⟩ := C
  subst G'
  exact fun H locs arr hP hD hS hl => va_alen (v := 9) hx hb hK hP 17 0 rfl rfl rfl hd (K H locs arr hP hD hS hl)
theorem X_l27 {i : Int32} (C : CxOk E RX0 cc nL G rm) (hd : decode cc pc = .ok (.iaload, 1)) (hin : vp_in i 3) (K : V E nL k n (wX G a S) (pc + 1) ls (.int (S.2.2.1 27 i.toNatClampNeg) :: st)) : V E nL k n (wX G a S) pc ls (.int i :: .ref (a 27) :: st) := by
  obtain ⟨p, l, e, R, s, m, args, below, meth, c, Q, A, G'⟩ := E
  obtain ⟨hx, hb, hml, hown, hts, hK, hA, hlk, rfl, hGG, hW0⟩ := C
  subst G'
  exact fun H locs arr hP hD hS hl => va_iald hx hb hK hP 18 0 rfl rfl hin hd (K H locs arr hP hD hS hl)
theorem X_s27 {i x : Int32} (C : CxOk E RX0 cc nL G rm) (hd : decode cc pc = .ok (.iastore, 1)) (hin : vp_in i 3) (K : V E nL k n (wX G a (setXa S 27 (upd (S.2.2.1 27) i.toNatClampNeg x))) (pc + 1) ls st) : V E nL k n (wX G a S) pc ls (.int x :: .int i :: .ref (a 27) :: st) := by
  obtain ⟨p, l, e, R, s, m, args, below, meth, c, Q, A, G'⟩ := E
  obtain ⟨hx, hb, hml, hown, hts, hK, hA, hlk, rfl, hGG, hW0⟩ := C
  subst G'
  exact fun H locs arr hP hD hS hl => va_iast hx hb hK hP hD hS 18 0 rfl rfl hin hd (fun H locs hP hD hS => K H locs arr hP hD hS hl)
theorem X_n27 (C : CxOk E RX0 cc nL G rm) (hd : decode cc pc = .ok (.arraylength, 1)) (K : V E nL k n (wX G a S) (pc + 1) ls (.int 3 :: st)) : V E nL k n (wX G a S) pc ls (.ref (a 27) :: st) := by
  obtain ⟨p, l, e, R, s, m, args, below, meth, c, Q, A, G'⟩ := E
  obtain ⟨hx, hb, hml, hown, hts, hK, hA, hlk, rfl, hGG, hW0⟩ := C
  subst G'
  exact fun H locs arr hP hD hS hl => va_alen (v := 3) hx hb hK hP 18 0 rfl rfl rfl hd (K H locs arr hP hD hS hl)
theorem X_l28 {i : Int32} (C : CxOk E RX0 cc nL G rm) (hd : decode cc pc = .ok (.iaload, 1)) (hin : vp_in i 6) (K : V E nL k n (wX G a S) (pc + 1) ls (.int (S.2.2.1 28 i.toNatClampNeg) :: st)) : V E nL k n (wX G a S) pc ls (.int i :: .ref (a 28) :: st) := by
  obtain ⟨p, l, e, R, s, m, args, below, meth, c, Q, A, G'⟩ := E
  obtain ⟨hx, hb, hml, hown, hts, hK, hA, hlk, rfl, hGG, hW0⟩ := C
  subst G'
  exact fun H locs arr hP hD hS hl => va_iald hx hb hK hP 19 0 rfl rfl hin hd (K H locs arr hP hD hS hl)
theorem X_s28 {i x : Int32} (C : CxOk E RX0 cc nL G rm) (hd : decode cc pc = .ok (.iastore, 1)) (hin : vp_in i 6) (K : V E nL k n (wX G a (setXa S 28 (upd (S.2.2.1 28) i.toNatClampNeg x))) (pc + 1) ls st) : V E nL k n (wX G a S) pc ls (.int x :: .int i :: .ref (a 28) :: st) := by
  obtain ⟨p, l, e, R, s, m, args, below, meth, c, Q, A, G'⟩ := E
  obtain ⟨hx, hb, hml, hown, hts, hK, hA, hlk, rfl, hGG, hW0⟩ := C
  subst G'
  exact fun H locs arr hP hD hS hl => va_iast hx hb hK hP hD hS 19 0 rfl rfl hin hd (fun H locs hP hD hS => K H locs arr hP hD hS hl)
theorem X_n28 (C : CxOk E RX0 cc nL G rm) (hd : decode cc pc = .ok (.arraylength, 1)) (K : V E nL k n (wX G a S) (pc + 1) ls (.int 6 :: st)) : V E nL k n (wX G a S) pc ls (.ref (a 28) :: st) := by
  obtain ⟨p, l, e, R, s, m, args, below, meth, c, Q, A, G'⟩ := E
  obtain ⟨hx, hb, hml, hown, hts, hK, hA, hlk, rfl, hGG, hW0⟩ := C
  subst G'
  exact fun H locs arr hP hD hS hl => va_alen (v := 6) hx hb hK hP 19 0 rfl rfl rfl hd (K H locs arr hP hD hS hl)
theorem X_l29 {i : Int32} (C : CxOk E RX0 cc nL G rm) (hd : decode cc pc = .ok (.iaload, 1)) (hin : vp_in i 6) (K : V E nL k n (wX G a S) (pc + 1) ls (.int (S.2.2.1 29 i.toNatClampNeg) :: st)) : V E nL k n (wX G a S) pc ls (.int i :: .ref (a 29) :: st) := by
  obtain ⟨p, l, e, R, s, m, args, below, meth, c, Q, A, G'⟩ := E
  obtain ⟨hx, hb, hml, hown, hts, hK, hA, hlk, rfl, hGG, hW0⟩ := C
  subst G'
  exact fun H locs arr hP hD hS hl => va_iald hx hb hK hP 20 0 rfl rfl hin hd (K H locs arr hP hD hS hl)
theorem X_s29 {i x : Int32} (C : CxOk E RX0 cc nL G rm) (hd : decode cc pc = .ok (.iastore, 1)) (hin : vp_in i 6) (K : V E nL k n (wX G a (setXa S 29 (upd (S.2.2.1 29) i.toNatClampNeg x))) (pc + 1) ls st) : V E nL k n (wX G a S) pc ls (.int x :: .int i :: .ref (a 29) :: st) := by
  obtain ⟨p, l, e, R, s, m, args, below, meth, c, Q, A, G'⟩ := E
  obtain ⟨hx, hb, hml, hown, hts, hK, hA, hlk, rfl, hGG, hW0⟩ := C
  subst G'
  exact fun H locs arr hP hD hS hl => va_iast hx hb hK hP hD hS 20 0 rfl rfl hin hd (fun H locs hP hD hS => K H locs arr hP hD hS hl)
theorem X_n29 (C : CxOk E RX0 cc nL G rm) (hd : decode cc pc = .ok (.arraylength, 1)) (K : V E nL k n (wX G a S) (pc + 1) ls (.int 6 :: st)) : V E nL k n (wX G a S) pc ls (.ref (a 29) :: st) := by
  obtain ⟨p, l, e, R, s, m, args, below, meth, c, Q, A, G'⟩ := E
  obtain ⟨hx, hb, hml, hown, hts, hK, hA, hlk, rfl, hGG, hW0⟩ := C
  subst G'
  exact fun H locs arr hP hD hS hl => va_alen (v := 6) hx hb hK hP 20 0 rfl rfl rfl hd (K H locs arr hP hD hS hl)
theorem X_l30 {i : Int32} (C : CxOk E RX0 cc nL G rm) (hd : decode cc pc = .ok (.baload, 1)) (hin : vp_in i 6) (K : V E nL k n (wX G a S) (pc + 1) ls (.int (S.2.2.1 30 i.toNatClampNeg) :: st)) : V E nL k n (wX G a S) pc ls (.int i :: .ref (a 30) :: st) := by
  obtain ⟨p, l, e, R, s, m, args, below, meth, c, Q, A, G'⟩ := E
  obtain ⟨hx, hb, hml, hown, hts, hK, hA, hlk, rfl, hGG, hW0⟩ := C
  subst G'
  exact fun H locs arr hP hD hS hl => va_zald hx hb hK hP 21 1 rfl rfl hin hd (K H locs arr hP hD hS hl)
theorem X_s30 {i x : Int32} (C : CxOk E RX0 cc nL G rm) (hd : decode cc pc = .ok (.bastore, 1)) (hin : vp_in i 6) (K : V E nL k n (wX G a (setXa S 30 (upd (S.2.2.1 30) i.toNatClampNeg (vp_nar .boolean x)))) (pc + 1) ls st) : V E nL k n (wX G a S) pc ls (.int x :: .int i :: .ref (a 30) :: st) := by
  obtain ⟨p, l, e, R, s, m, args, below, meth, c, Q, A, G'⟩ := E
  obtain ⟨hx, hb, hml, hown, hts, hK, hA, hlk, rfl, hGG, hW0⟩ := C
  subst G'
  exact fun H locs arr hP hD hS hl => va_zast hx hb hK hP hD hS 21 1 rfl rfl hin hd (fun H locs hP hD hS => K H locs arr hP hD hS hl)
theorem X_n30 (C : CxOk E RX0 cc nL G rm) (hd : decode cc pc = .ok (.arraylength, 1)) (K : V E nL k n (wX G a S) (pc + 1) ls (.int 6 :: st)) : V E nL k n (wX G a S) pc ls (.ref (a 30) :: st) := by
  obtain ⟨p, l, e, R, s, m, args, below, meth, c, Q, A, G'⟩ := E
  obtain ⟨hx, hb, hml, hown, hts, hK, hA, hlk, rfl, hGG, hW0⟩ := C
  subst G'
  exact fun H locs arr hP hD hS hl => va_alen (v := 6) hx hb hK hP 21 1 rfl rfl rfl hd (K H locs arr hP hD hS hl)
theorem X_at {u : Nat} (hp : u < S.2.2.2.1) : (wX G a S)[u + 22]? = some (pcell S u) := by
  show ((List.range S.2.2.2.1).map (pcell S))[u]? = _
  rw [List.getElem?_map, List.getElem?_range hp]
  rfl
theorem X_l6 {u : Nat} (C : CxOk E RX0 cc nL G rm) (hd : decode cc pc = .ok (.aaload, 1)) {i : Int32} (hi : i = nI u) (hp : u < S.2.2.2.1) (hp3 : u < 3) (K : V E nL k n (wX G a S) (pc + 1) ls (.ref (S.2.2.2.2.1 u) :: st)) : V E nL k n (wX G a S) pc ls (.int i :: .ref (a 6) :: st) := by
  obtain ⟨p, l, e, R, s, m, args, below, meth, c, Q, A, G'⟩ := E
  obtain ⟨hx, hb, hml, hown, hts, hK, hA, hlk, rfl, hGG, hW0⟩ := C
  subst G'
  subst hi
  intro H locs arr hP hD hS hl
  refine va_aldq hx hb hK hP 4 3 rfl rfl (vp_in_nI hp3 (by decide)) hd ?_
  rw [nI_clamp (by omega)]
  show W _ _ _ _ _ _ _ _ _ _ _ _ _ _ _ (F0 _ _ _ (va_rf (if u < S.2.2.2.1 then _ else _) :: _))
  rw [if_pos hp]
  exact K H locs arr hP hD hS hl
theorem P_g0 {u : Nat} (C : CxOk E RX0 cc nL G rm) (hd : decode cc pc = .ok (.getfield 174, 3)) (hp : u < S.2.2.2.1) (hk5 : S.2.2.2.2.2.1 u < 5) (K : V E nL k n (wX G a S) (pc + 3) ls (.int (S.2.2.2.2.2.2 u 0) :: st)) : V E nL k n (wX G a S) pc ls (.ref (S.2.2.2.2.1 u) :: st) := by
  obtain ⟨p, l, e, R, s, m, args, below, meth, c, Q, A, G'⟩ := E
  obtain ⟨hx, hb, hml, hown, hts, hK, hA, hlk, rfl, hGG, hW0⟩ := C
  subst G'
  intro H locs arr hP hD hS hl
  have he := X_at (G := G) (a := a) hp
  have K := K H locs arr hP hD hS hl
  unfold pcell at he
  generalize S.2.2.2.2.2.1 u = kd at he hk5
  match kd, hk5, K, he with
  | 0, hk, K, he => exact va_get (D := G.1) (ci := 2) (v := .int (S.2.2.2.2.2.2 u 0)) (C := RX2) (T := TX2) (N := 6) hx hb hts in_X2 hown hK hP (u + 22) he rfl 0 (by decide) (hts _ q283) (fun _ h => h) rfl hd K
  | 1, hk, K, he => exact va_get (D := G.1) (ci := 3) (v := .int (S.2.2.2.2.2.2 u 0)) (C := RX3) (T := TX3) (N := 6) hx hb hts in_X3 hown hK hP (u + 22) he rfl 0 (by decide) (hts _ q283) (fun _ h => h) rfl hd K
  | 2, hk, K, he => exact va_get (D := G.1) (ci := 4) (v := .int (S.2.2.2.2.2.2 u 0)) (C := RX4) (T := TX4) (N := 6) hx hb hts in_X4 hown hK hP (u + 22) he rfl 0 (by decide) (hts _ q283) (fun _ h => h) rfl hd K
  | 3, hk, K, he => exact va_get (D := G.1) (ci := 5) (v := .int (S.2.2.2.2.2.2 u 0)) (C := RX5) (T := TX5) (N := 6) hx hb hts in_X5 hown hK hP (u + 22) he rfl 0 (by decide) (hts _ q283) (fun _ h => h) rfl hd K
  | 4, hk, K, he => exact va_get (D := G.1) (ci := 6) (v := .int (S.2.2.2.2.2.2 u 0)) (C := RX6) (T := TX6) (N := 6) hx hb hts in_X6 hown hK hP (u + 22) he rfl 0 (by decide) (hts _ q283) (fun _ h => h) rfl hd K
theorem X_setp0 {u : Nat} {v : Int32} (hp : u < S.2.2.2.1) : (wX G a S).set (u + 22) (S.2.2.2.2.1 u, .inr (2 + S.2.2.2.2.2.1 u, [.int v, .int (S.2.2.2.2.2.2 u 1), .int (S.2.2.2.2.2.2 u 2), .int (S.2.2.2.2.2.2 u 3), .int (S.2.2.2.2.2.2 u 4), .int (S.2.2.2.2.2.2 u 5)])) = wX G a (setXp S u 0 v) := by
  refine List.ext_getElem? fun i => ?_
  rw [List.getElem?_set]
  by_cases h : u + 22 = i
  · subst h
    rw [if_pos rfl, if_pos (by have := (List.getElem?_eq_some_iff.mp (X_at (G := G) (a := a) hp)).1; exact this)]
    rw [X_at (S := setXp S u 0 v) hp]
    simp [pcell, setXp, va_up]
  · rw [if_neg h]
    by_cases h2 : i < 22
    · have : i ∈ List.range 22 := List.mem_range.mpr h2
      have key : ∀ j ∈ List.range 22, (wX G a S)[j]? = (wX G a (setXp S u 0 v))[j]? := by
        intro j hj
        simp only [List.mem_range] at hj
        rcases j with _ | _ | _ | _ | _ | _ | _ | _ | _ | _ | _ | _ | _ | _ | _ | _ | _ | _ | _ | _ | _ | _ | j <;> first | rfl | (exfalso; omega)
      exact key i this
    · obtain ⟨j, rfl⟩ : ∃ j, i = j + 22 := ⟨i - 22, by omega⟩
      show ((List.range S.2.2.2.1).map (pcell S))[j]? = ((List.range S.2.2.2.1).map (pcell (setXp S u 0 v)))[j]?
      rw [List.getElem?_map, List.getElem?_map]
      by_cases hj : j < S.2.2.2.1
      · rw [List.getElem?_range hj]
        have hne : ¬ j = u := fun e => h (by rw [e])
        simp [pcell, setXp, va_up, hne]
      · rw [List.getElem?_eq_none (by simpa using hj)]
        rfl
theorem P_p0 {u : Nat} {v : Int32} (C : CxOk E RX0 cc nL G rm) (hd : decode cc pc = .ok (.putfield 174, 3)) (hp : u < S.2.2.2.1) (hk5 : S.2.2.2.2.2.1 u < 5) (K : V E nL k n (wX G a (setXp S u 0 v)) (pc + 3) ls st) : V E nL k n (wX G a S) pc ls (.int v :: .ref (S.2.2.2.2.1 u) :: st) := by
  obtain ⟨p, l, e, R, s, m, args, below, meth, c, Q, A, G'⟩ := E
  obtain ⟨hx, hb, hml, hown, hts, hK, hA, hlk, rfl, hGG, hW0⟩ := C
  subst G'
  intro H locs arr hP hD hS hl
  have he := X_at (G := G) (a := a) hp
  unfold pcell at he
  generalize e0 : S.2.2.2.2.2.1 u = kd at he hk5
  match kd, hk5, he with
  | 0, hk, he => exact va_put (D := G.1) (ci := 2) (v := .int v) (ty := .int) (C := RX2) (T := TX2) (N := 6) hx hb hts in_X2 tyX2 tyX2_ok nmX2 hown hK hP hD hS (u + 22) he rfl 0 (by decide) (hts _ q283) (fun _ h => h) rfl (by decide +kernel) rfl rfl (Nat.le_of_ble_eq_true rfl) hd (fun H locs hP hD hS => K H locs arr (by rw [← X_setp0 hp, e0]; exact hP) (by rw [← X_setp0 hp, e0]; exact hD) hS hl)
  | 1, hk, he => exact va_put (D := G.1) (ci := 3) (v := .int v) (ty := .int) (C := RX3) (T := TX3) (N := 6) hx hb hts in_X3 tyX3 tyX3_ok nmX3 hown hK hP hD hS (u + 22) he rfl 0 (by decide) (hts _ q283) (fun _ h => h) rfl (by decide +kernel) rfl rfl (Nat.le_of_ble_eq_true rfl) hd (fun H locs hP hD hS => K H locs arr (by rw [← X_setp0 hp, e0]; exact hP) (by rw [← X_setp0 hp, e0]; exact hD) hS hl)
  | 2, hk, he => exact va_put (D := G.1) (ci := 4) (v := .int v) (ty := .int) (C := RX4) (T := TX4) (N := 6) hx hb hts in_X4 tyX4 tyX4_ok nmX4 hown hK hP hD hS (u + 22) he rfl 0 (by decide) (hts _ q283) (fun _ h => h) rfl (by decide +kernel) rfl rfl (Nat.le_of_ble_eq_true rfl) hd (fun H locs hP hD hS => K H locs arr (by rw [← X_setp0 hp, e0]; exact hP) (by rw [← X_setp0 hp, e0]; exact hD) hS hl)
  | 3, hk, he => exact va_put (D := G.1) (ci := 5) (v := .int v) (ty := .int) (C := RX5) (T := TX5) (N := 6) hx hb hts in_X5 tyX5 tyX5_ok nmX5 hown hK hP hD hS (u + 22) he rfl 0 (by decide) (hts _ q283) (fun _ h => h) rfl (by decide +kernel) rfl rfl (Nat.le_of_ble_eq_true rfl) hd (fun H locs hP hD hS => K H locs arr (by rw [← X_setp0 hp, e0]; exact hP) (by rw [← X_setp0 hp, e0]; exact hD) hS hl)
  | 4, hk, he => exact va_put (D := G.1) (ci := 6) (v := .int v) (ty := .int) (C := RX6) (T := TX6) (N := 6) hx hb hts in_X6 tyX6 tyX6_ok nmX6 hown hK hP hD hS (u + 22) he rfl 0 (by decide) (hts _ q283) (fun _ h => h) rfl (by decide +kernel) rfl rfl (Nat.le_of_ble_eq_true rfl) hd (fun H locs hP hD hS => K H locs arr (by rw [← X_setp0 hp, e0]; exact hP) (by rw [← X_setp0 hp, e0]; exact hD) hS hl)
theorem P_g1 {u : Nat} (C : CxOk E RX0 cc nL G rm) (hd : decode cc pc = .ok (.getfield 177, 3)) (hp : u < S.2.2.2.1) (hk5 : S.2.2.2.2.2.1 u < 5) (K : V E nL k n (wX G a S) (pc + 3) ls (.int (S.2.2.2.2.2.2 u 1) :: st)) : V E nL k n (wX G a S) pc ls (.ref (S.2.2.2.2.1 u) :: st) := by
  obtain ⟨p, l, e, R, s, m, args, below, meth, c, Q, A, G'⟩ := E
  obtain ⟨hx, hb, hml, hown, hts, hK, hA, hlk, rfl, hGG, hW0⟩ := C
  subst G'
  intro H locs arr hP hD hS hl
  have he := X_at (G := G) (a := a) hp
  have K := K H locs arr hP hD hS hl
  unfold pcell at he
  generalize S.2.2.2.2.2.1 u = kd at he hk5
  match kd, hk5, K, he with
  | 0, hk, K, he => exact va_get (D := G.1) (ci := 2) (v := .int (S.2.2.2.2.2.2 u 1)) (C := RX2) (T := TX2) (N := 6) hx hb hts in_X2 hown hK hP (u + 22) he rfl 1 (by decide) (hts _ q292) (fun _ h => h) rfl hd K
  | 1, hk, K, he => exact va_get (D := G.1) (ci := 3) (v := .int (S.2.2.2.2.2.2 u 1)) (C := RX3) (T := TX3) (N := 6) hx hb hts in_X3 hown hK hP (u + 22) he rfl 1 (by decide) (hts _ q292) (fun _ h => h) rfl hd K
  | 2, hk, K, he => exact va_get (D := G.1) (ci := 4) (v := .int (S.2.2.2.2.2.2 u 1)) (C := RX4) (T := TX4) (N := 6) hx hb hts in_X4 hown hK hP (u + 22) he rfl 1 (by decide) (hts _ q292) (fun _ h => h) rfl hd K
  | 3, hk, K, he => exact va_get (D := G.1) (ci := 5) (v := .int (S.2.2.2.2.2.2 u 1)) (C := RX5) (T := TX5) (N := 6) hx hb hts in_X5 hown hK hP (u + 22) he rfl 1 (by decide) (hts _ q292) (fun _ h => h) rfl hd K
  | 4, hk, K, he => exact va_get (D := G.1) (ci := 6) (v := .int (S.2.2.2.2.2.2 u 1)) (C := RX6) (T := TX6) (N := 6) hx hb hts in_X6 hown hK hP (u + 22) he rfl 1 (by decide) (hts _ q292) (fun _ h => h) rfl hd K
theorem X_setp1 {u : Nat} {v : Int32} (hp : u < S.2.2.2.1) : (wX G a S).set (u + 22) (S.2.2.2.2.1 u, .inr (2 + S.2.2.2.2.2.1 u, [.int (S.2.2.2.2.2.2 u 0), .int v, .int (S.2.2.2.2.2.2 u 2), .int (S.2.2.2.2.2.2 u 3), .int (S.2.2.2.2.2.2 u 4), .int (S.2.2.2.2.2.2 u 5)])) = wX G a (setXp S u 1 v) := by
  refine List.ext_getElem? fun i => ?_
  rw [List.getElem?_set]
  by_cases h : u + 22 = i
  · subst h
    rw [if_pos rfl, if_pos (by have := (List.getElem?_eq_some_iff.mp (X_at (G := G) (a := a) hp)).1; exact this)]
    rw [X_at (S := setXp S u 1 v) hp]
    simp [pcell, setXp, va_up]
  · rw [if_neg h]
    by_cases h2 : i < 22
    · have : i ∈ List.range 22 := List.mem_range.mpr h2
      have key : ∀ j ∈ List.range 22, (wX G a S)[j]? = (wX G a (setXp S u 1 v))[j]? := by
        intro j hj
        simp only [List.mem_range] at hj
        rcases j with _ | _ | _ | _ | _ | _ | _ | _ | _ | _ | _ | _ | _ | _ | _ | _ | _ | _ | _ | _ | _ | _ | j <;> first | rfl | (exfalso; omega)
      exact key i this
    · obtain ⟨j, rfl⟩ : ∃ j, i = j + 22 := ⟨i - 22, by omega⟩
      show ((List.range S.2.2.2.1).map (pcell S))[j]? = ((List.range S.2.2.2.1).map (pcell (setXp S u 1 v)))[j]?
      rw [List.getElem?_map, List.getElem?_map]
      by_cases hj : j < S.2.2.2.1
      · rw [List.getElem?_range hj]
        have hne : ¬ j = u := fun e => h (by rw [e])
        simp [pcell, setXp, va_up, hne]
      · rw [List.getElem?_eq_none (by simpa using hj)]
        rfl
theorem P_p1 {u : Nat} {v : Int32} (C : CxOk E RX0 cc nL G rm) (hd : decode cc pc = .ok (.putfield 177, 3)) (hp : u < S.2.2.2.1) (hk5 : S.2.2.2.2.2.1 u < 5) (K : V E nL k n (wX G a (setXp S u 1 v)) (pc + 3) ls st) : V E nL k n (wX G a S) pc ls (.int v :: .ref (S.2.2.2.2.1 u) :: st) := by
  obtain ⟨p, l, e, R, s, m, args, below, meth, c, Q, A, G'⟩ := E
  obtain ⟨hx, hb, hml, hown, hts, hK, hA, hlk, rfl, hGG, hW0⟩ := C
  subst G'
  intro H locs arr hP hD hS hl
  have he := X_at (G := G) (a := a) hp
  unfold pcell at he
  generalize e0 : S.2.2.2.2.2.1 u = kd at he hk5
  match kd, hk5, he with
  | 0, hk, he => exact va_put (D := G.1) (ci := 2) (v := .int v) (ty := .int) (C := RX2) (T := TX2) (N := 6) hx hb hts in_X2 tyX2 tyX2_ok nmX2 hown hK hP hD hS (u + 22) he rfl 1 (by decide) (hts _ q292) (fun _ h => h) rfl (by decide +kernel) rfl rfl (Nat.le_of_ble_eq_true rfl) hd (fun H locs hP hD hS => K H locs arr (by rw [← X_setp1 hp, e0]; exact hP) (by rw [← X_setp1 hp, e0]; exact hD) hS hl)
  | 1, hk, he => exact va_put (D := G.1) (ci := 3) (v := .int v) (ty := .int) (C := RX3) (T := TX3) (N := 6) hx hb hts in_X3 tyX3 tyX3_ok nmX3 hown hK hP hD hS (u + 22) he rfl 1 (by decide) (hts _ q292) (fun _ h => h) rfl (by decide +kernel) rfl rfl (Nat.le_of_ble_eq_true rfl) hd (fun H locs hP hD hS => K H locs arr (by rw [← X_setp1 hp, e0]; exact hP) (by rw [← X_setp1 hp, e0]; exact hD) hS hl)
  | 2, hk, he => exact va_put (D := G.1) (ci := 4) (v := .int v) (ty := .int) (C := RX4) (T := TX4) (N := 6) hx hb hts in_X4 tyX4 tyX4_ok nmX4 hown hK hP hD hS (u + 22) he rfl 1 (by decide) (hts _ q292) (fun _ h => h) rfl (by decide +kernel) rfl rfl (Nat.le_of_ble_eq_true rfl) hd (fun H locs hP hD hS => K H locs arr (by rw [← X_setp1 hp, e0]; exact hP) (by rw [← X_setp1 hp, e0]; exact hD) hS hl)
  | 3, hk, he => exact va_put (D := G.1) (ci := 5) (v := .int v) (ty := .int) (C := RX5) (T := TX5) (N := 6) hx hb hts in_X5 tyX5 tyX5_ok nmX5 hown hK hP hD hS (u + 22) he rfl 1 (by decide) (hts _ q292) (fun _ h => h) rfl (by decide +kernel) rfl rfl (Nat.le_of_ble_eq_true rfl) hd (fun H locs hP hD hS => K H locs arr (by rw [← X_setp1 hp, e0]; exact hP) (by rw [← X_setp1 hp, e0]; exact hD) hS hl)
  | 4, hk, he => exact va_put (D := G.1) (ci := 6) (v := .int v) (ty := .int) (C := RX6) (T := TX6) (N := 6) hx hb hts in_X6 tyX6 tyX6_ok nmX6 hown hK hP hD hS (u + 22) he rfl 1 (by decide) (hts _ q292) (fun _ h => h) rfl (by decide +kernel) rfl rfl (Nat.le_of_ble_eq_true rfl) hd (fun H locs hP hD hS => K H locs arr (by rw [← X_setp1 hp, e0]; exact hP) (by rw [← X_setp1 hp, e0]; exact hD) hS hl)
theorem P_g2 {u : Nat} (C : CxOk E RX0 cc nL G rm) (hd : decode cc pc = .ok (.getfield 180, 3)) (hp : u < S.2.2.2.1) (hk5 : S.2.2.2.2.2.1 u < 5) (K : V E nL k n (wX G a S) (pc + 3) ls (.int (S.2.2.2.2.2.2 u 2) :: st)) : V E nL k n (wX G a S) pc ls (.ref (S.2.2.2.2.1 u) :: st) := by
  obtain ⟨p, l, e, R, s, m, args, below, meth, c, Q, A, G'⟩ := E
  obtain ⟨hx, hb, hml, hown, hts, hK, hA, hlk, rfl, hGG, hW0⟩ := C
  subst G'
  intro H locs arr hP hD hS hl
  have he := X_at (G := G) (a := a) hp
  have K := K H locs arr hP hD hS hl
  unfold pcell at he
  generalize S.2.2.2.2.2.1 u = kd at he hk5
  match kd, hk5, K, he with
  | 0, hk, K, he => exact va_get (D := G.1) (ci := 2) (v := .int (S.2.2.2.2.2.2 u 2)) (C := RX2) (T := TX2) (N := 6) hx hb hts in_X2 hown hK hP (u + 22) he rfl 2 (by decide) (hts _ q293) (fun _ h => h) rfl hd K
  | 1, hk, K, he => exact va_get (D := G.1) (ci := 3) (v := .int (S.2.2.2.2.2.2 u 2)) (C := RX3) (T := TX3) (N := 6) hx hb hts in_X3 hown hK hP (u + 22) he rfl 2 (by decide) (hts _ q293) (fun _ h => h) rfl hd K
  | 2, hk, K, he => exact va_get (D := G.1) (ci := 4) (v := .int (S.2.2.2.2.2.2 u 2)) (C := RX4) (T := TX4) (N := 6) hx hb hts in_X4 hown hK hP (u + 22) he rfl 2 (by decide) (hts _ q293) (fun _ h => h) rfl hd K
  | 3, hk, K, he => exact va_get (D := G.1) (ci := 5) (v := .int (S.2.2.2.2.2.2 u 2)) (C := RX5) (T := TX5) (N := 6) hx hb hts in_X5 hown hK hP (u + 22) he rfl 2 (by decide) (hts _ q293) (fun _ h => h) rfl hd K
  | 4, hk, K, he => exact va_get (D := G.1) (ci := 6) (v := .int (S.2.2.2.2.2.2 u 2)) (C := RX6) (T := TX6) (N := 6) hx hb hts in_X6 hown hK hP (u + 22) he rfl 2 (by decide) (hts _ q293) (fun _ h => h) rfl hd K
theorem X_setp2 {u : Nat} {v : Int32} (hp : u < S.2.2.2.1) : (wX G a S).set (u + 22) (S.2.2.2.2.1 u, .inr (2 + S.2.2.2.2.2.1 u, [.int (S.2.2.2.2.2.2 u 0), .int (S.2.2.2.2.2.2 u 1), .int v, .int (S.2.2.2.2.2.2 u 3), .int (S.2.2.2.2.2.2 u 4), .int (S.2.2.2.2.2.2 u 5)])) = wX G a (setXp S u 2 v) := by
  refine List.ext_getElem? fun i => ?_
  rw [List.getElem?_set]
  by_cases h : u + 22 = i
  · subst h
    rw [if_pos rfl, if_pos (by have := (List.getElem?_eq_some_iff.mp (X_at (G := G) (a := a) hp)).1; exact this)]
    rw [X_at (S := setXp S u 2 v) hp]
    simp [pcell, setXp, va_up]
  · rw [if_neg h]
    by_cases h2 : i < 22
    · have : i ∈ List.range 22 := List.mem_range.mpr h2
      have key : ∀ j ∈ List.range 22, (wX G a S)[j]? = (wX G a (setXp S u 2 v))[j]? := by
        intro j hj
        simp only [List.mem_range] at hj
        rcases j with _ | _ | _ | _ | _ | _ | _ | _ | _ | _ | _ | _ | _ | _ | _ | _ | _ | _ | _ | _ | _ | _ | j <;> first | rfl | (exfalso; omega)
      exact key i this
    · obtain ⟨j, rfl⟩ : ∃ j, i = j + 22 := ⟨i - 22, by omega⟩
      show ((List.range S.2.2.2.1).map (pcell S))[j]? = ((List.range S.2.2.2.1).map (pcell (setXp S u 2 v)))[j]?
      rw [List.getElem?_map, List.getElem?_map]
      by_cases hj : j < S.2.2.2.1
      · rw [List.getElem?_range hj]
        have hne : ¬ j = u := fun e => h (by rw [e])
        simp [pcell, setXp, va_up, hne]
      · rw [List.getElem?_eq_none (by simpa using hj)]
        rfl
theorem P_p2 {u : Nat} {v : Int32} (C : CxOk E RX0 cc nL G rm) (hd : decode cc pc = .ok (.putfield 180, 3)) (hp : u < S.2.2.2.1) (hk5 : S.2.2.2.2.2.1 u < 5) (K : V E nL k n (wX G a (setXp S u 2 v)) (pc + 3) ls st) : V E nL k n (wX G a S) pc ls (.int v :: .ref (S.2.2.2.2.1 u) :: st) := by
  obtain ⟨p, l, e, R, s, m, args, below, meth, c, Q, A, G'⟩ := E
  obtain ⟨hx, hb, hml, hown, hts, hK, hA, hlk, rfl, hGG, hW0⟩ := C
  subst G'
  intro H locs arr hP hD hS hl
  have he := X_at (G := G) (a := a) hp
  unfold pcell at he
  generalize e0 : S.2.2.2.2.2.1 u = kd at he hk5
  match kd, hk5, he with
  | 0, hk, he => exact va_put (D := G.1) (ci := 2) (v := .int v) (ty := .int) (C := RX2) (T := TX2) (N := 6) hx hb hts in_X2 tyX2 tyX2_ok nmX2 hown hK hP hD hS (u + 22) he rfl 2 (by decide) (hts _ q293) (fun _ h => h) rfl (by decide +kernel) rfl rfl (Nat.le_of_ble_eq_true rfl) hd (fun H locs hP hD hS => K H locs arr (by rw [← X_setp2 hp, e0]; exact hP) (by rw [← X_setp2 hp, e0]; exact hD) hS hl)
  | 1, hk, he => exact va_put (D := G.1) (ci := 3) (v := .int v) (ty := .int) (C := RX3) (T := TX3) (N := 6) hx hb hts in_X3 tyX3 tyX3_ok nmX3 hown hK hP hD hS (u + 22) he rfl 2 (by decide) (hts _ q293) (fun _ h => h) rfl (by decide +kernel) rfl rfl (Nat.le_of_ble_eq_true rfl) hd (fun H locs hP hD hS => K H locs arr (by rw [← X_setp2 hp, e0]; exact hP) (by rw [← X_setp2 hp, e0]; exact hD) hS hl)
  | 2, hk, he => exact va_put (D := G.1) (ci := 4) (v := .int v) (ty := .int) (C := RX4) (T := TX4) (N := 6) hx hb hts in_X4 tyX4 tyX4_ok nmX4 hown hK hP hD hS (u + 22) he rfl 2 (by decide) (hts _ q293) (fun _ h => h) rfl (by decide +kernel) rfl rfl (Nat.le_of_ble_eq_true rfl) hd (fun H locs hP hD hS => K H locs arr (by rw [← X_setp2 hp, e0]; exact hP) (by rw [← X_setp2 hp, e0]; exact hD) hS hl)
  | 3, hk, he => exact va_put (D := G.1) (ci := 5) (v := .int v) (ty := .int) (C := RX5) (T := TX5) (N := 6) hx hb hts in_X5 tyX5 tyX5_ok nmX5 hown hK hP hD hS (u + 22) he rfl 2 (by decide) (hts _ q293) (fun _ h => h) rfl (by decide +kernel) rfl rfl (Nat.le_of_ble_eq_true rfl) hd (fun H locs hP hD hS => K H locs arr (by rw [← X_setp2 hp, e0]; exact hP) (by rw [← X_setp2 hp, e0]; exact hD) hS hl)
  | 4, hk, he => exact va_put (D := G.1) (ci := 6) (v := .int v) (ty := .int) (C := RX6) (T := TX6) (N := 6) hx hb hts in_X6 tyX6 tyX6_ok nmX6 hown hK hP hD hS (u + 22) he rfl 2 (by decide) (hts _ q293) (fun _ h => h) rfl (by decide +kernel) rfl rfl (Nat.le_of_ble_eq_true rfl) hd (fun H locs hP hD hS => K H locs arr (by rw [← X_setp2 hp, e0]; exact hP) (by rw [← X_setp2 hp, e0]; exact hD) hS hl)
theorem P_g3 {u : Nat} (C : CxOk E RX0 cc nL G rm) (hd : decode cc pc = .ok (.getfield 141, 3)) (hp : u < S.2.2.2.1) (hk5 : S.2.2.2.2.2.1 u < 5) (K : V E nL k n (wX G a S) (pc + 3) ls (.int (S.2.2.2.2.2.2 u 3) :: st)) : V E nL k n (wX G a S) pc ls (.ref (S.2.2.2.2.1 u) :: st) := by
  obtain ⟨p, l, e, R, s, m, args, below, meth, c, Q, A, G'⟩ := E
  obtain ⟨hx, hb, hml, hown, hts, hK, hA, hlk, rfl, hGG, hW0⟩ := C
  subst G'
  intro H locs arr hP hD hS hl
  have he := X_at (G := G) (a := a) hp
  have K := K H locs arr hP hD hS hl
  unfold pcell at he
  generalize S.2.2.2.2.2.1 u = kd at he hk5
  match kd, hk5, K, he with
  | 0, hk, K, he => exact va_get (D := G.1) (ci := 2) (v := .int (S.2.2.2.2.2.2 u 3)) (C := RX2) (T := TX2) (N := 6) hx hb hts in_X2 hown hK hP (u + 22) he rfl 3 (by decide) (hts _ q294) (fun _ h => h) rfl hd K
  | 1, hk, K, he => exact va_get (D := G.1) (ci := 3) (v := .int (S.2.2.2.2.2.2 u 3)) (C := RX3) (T := TX3) (N := 6) hx hb hts in_X3 hown hK hP (u + 22) he rfl 3 (by decide) (hts _ q294) (fun _ h => h) rfl hd K
  | 2, hk, K, he => exact va_get (D := G.1) (ci := 4) (v := .int (S.2.2.2.2.2.2 u 3)) (C := RX4) (T := TX4) (N := 6) hx hb hts in_X4 hown hK hP (u + 22) he rfl 3 (by decide) (hts _ q294) (fun _ h => h) rfl hd K
  | 3, hk, K, he => exact va_get (D := G.1) (ci := 5) (v := .int (S.2.2.2.2.2.2 u 3)) (C := RX5) (T := TX5) (N := 6) hx hb hts in_X5 hown hK hP (u + 22) he rfl 3 (by decide) (hts _ q294) (fun _ h => h) rfl hd K
  | 4, hk, K, he => exact va_get (D := G.1) (ci := 6) (v := .int (S.2.2.2.2.2.2 u 3)) (C := RX6) (T := TX6) (N := 6) hx hb hts in_X6 hown hK hP (u + 22) he rfl 3 (by decide) (hts _ q294) (fun _ h => h) rfl hd K
theorem X_setp3 {u : Nat} {v : Int32} (hp : u < S.2.2.2.1) : (wX G a S).set (u + 22) (S.2.2.2.2.1 u, .inr (2 + S.2.2.2.2.2.1 u, [.int (S.2.2.2.2.2.2 u 0), .int (S.2.2.2.2.2.2 u 1), .int (S.2.2.2.2.2.2 u 2), .int v, .int (S.2.2.2.2.2.2 u 4), .int (S.2.2.2.2.2.2 u 5)])) = wX G a (setXp S u 3 v) := by
  refine List.ext_getElem? fun i => ?_
  rw [List.getElem?_set]
  by_cases h : u + 22 = i
  · subst h
    rw [if_pos rfl, if_pos (by have := (List.getElem?_eq_some_iff.mp (X_at (G := G) (a := a) hp)).1; exact this)]
    rw [X_at (S := setXp S u 3 v) hp]
    simp [pcell, setXp, va_up]
  · rw [if_neg h]
    by_cases h2 : i < 22
    · have : i ∈ List.range 22 := List.mem_range.mpr h2
      have key : ∀ j ∈ List.range 22, (wX G a S)[j]? = (wX G a (setXp S u 3 v))[j]? := by
        intro j hj
        simp only [List.mem_range] at hj
        rcases j with _ | _ | _ | _ | _ | _ | _ | _ | _ | _ | _ | _ | _ | _ | _ | _ | _ | _ | _ | _ | _ | _ | j <;> first | rfl | (exfalso; omega)
      exact key i this
    · obtain ⟨j, rfl⟩ : ∃ j, i = j + 22 := ⟨i - 22, by omega⟩
      show ((List.range S.2.2.2.1).map (pcell S))[j]? = ((List.range S.2.2.2.1).map (pcell (setXp S u 3 v)))[j]?
      rw [List.getElem?_map, List.getElem?_map]
      by_cases hj : j < S.2.2.2.1
      · rw [List.getElem?_range hj]
        have hne : ¬ j = u := fun e => h (by rw [e])
        simp [pcell, setXp, va_up, hne]
      · rw [List.getElem?_eq_none (by simpa using hj)]
        rfl
theorem P_p3 {u : Nat} {v : Int32} (C : CxOk E RX0 cc nL G rm) (hd : decode cc pc = .ok (.putfield 141, 3)) (hp : u < S.2.2.2.1) (hk5 : S.2.2.2.2.2.1 u < 5) (K : V E nL k n (wX G a (setXp S u 3 v)) (pc + 3) ls st) : V E nL k n (wX G a S) pc ls (.int v :: .ref (S.2.2.2.2.1 u) :: st) := by
  obtain ⟨p, l, e, R, s, m, args, below, meth, c, Q, A, G'⟩ := E
  obtain ⟨hx, hb, hml, hown, hts, hK, hA, hlk, rfl, hGG, hW0⟩ := C
  subst G'
  intro H locs arr hP hD hS hl
  have he := X_at (G := G) (a := a) hp
  unfold pcell at he
  generalize e0 : S.2.2.2.2.2.1 u = kd at he hk5
  match kd, hk5, he with
  | 0, hk, he => exact va_put (D := G.1) (ci := 2) (v := .int v) (ty := .int) (C := RX2) (T := TX2) (N := 6) hx hb hts in_X2 tyX2 tyX2_ok nmX2 hown hK hP hD hS (u + 22) he rfl 3 (by decide) (hts _ q294) (fun _ h => h) rfl (by decide +kernel) rfl rfl (Nat.le_of_ble_eq_true rfl) hd (fun H locs hP hD hS => K H locs arr (by rw [← X_setp3 hp, e0]; exact hP) (by rw [← X_setp3 hp, e0]; exact hD) hS hl)
  | 1, hk, he => exact va_put (D := G.1) (ci := 3) (v := .int v) (ty := .int) (C := RX3) (T := TX3) (N := 6) hx hb hts in_X3 tyX3 tyX3_ok nmX3 hown hK hP hD hS (u + 22) he rfl 3 (by decide) (hts _ q294) (fun _ h => h) rfl (by decide +kernel) rfl rfl (Nat.le_of_ble_eq_true rfl) hd (fun H locs hP hD hS => K H locs arr (by rw [← X_setp3 hp, e0]; exact hP) (by rw [← X_setp3 hp, e0]; exact hD) hS hl)
  | 2, hk, he => exact va_put (D := G.1) (ci := 4) (v := .int v) (ty := .int) (C := RX4) (T := TX4) (N := 6) hx hb hts in_X4 tyX4 tyX4_ok nmX4 hown hK hP hD hS (u + 22) he rfl 3 (by decide) (hts _ q294) (fun _ h => h) rfl (by decide +kernel) rfl rfl (Nat.le_of_ble_eq_true rfl) hd (fun H locs hP hD hS => K H locs arr (by rw [← X_setp3 hp, e0]; exact hP) (by rw [← X_setp3 hp, e0]; exact hD) hS hl)
  | 3, hk, he => exact va_put (D := G.1) (ci := 5) (v := .int v) (ty := .int) (C := RX5) (T := TX5) (N := 6) hx hb hts in_X5 tyX5 tyX5_ok nmX5 hown hK hP hD hS (u + 22) he rfl 3 (by decide) (hts _ q294) (fun _ h => h) rfl (by decide +kernel) rfl rfl (Nat.le_of_ble_eq_true rfl) hd (fun H locs hP hD hS => K H locs arr (by rw [← X_setp3 hp, e0]; exact hP) (by rw [← X_setp3 hp, e0]; exact hD) hS hl)
  | 4, hk, he => exact va_put (D := G.1) (ci := 6) (v := .int v) (ty := .int) (C := RX6) (T := TX6) (N := 6) hx hb hts in_X6 tyX6 tyX6_ok nmX6 hown hK hP hD hS (u + 22) he rfl 3 (by decide) (hts _ q294) (fun _ h => h) rfl (by decide +kernel) rfl rfl (Nat.le_of_ble_eq_true rfl) hd (fun H locs hP hD hS => K H locs arr (by rw [← X_setp3 hp, e0]; exact hP) (by rw [← X_setp3 hp, e0]; exact hD) hS hl)
theorem P_g4 {u : Nat} (C : CxOk E RX0 cc nL G rm) (hd : decode cc pc = .ok (.getfield 339, 3)) (hp : u < S.2.2.2.1) (hk5 : S.2.2.2.2.2.1 u < 5) (K : V E nL k n (wX G a S) (pc + 3) ls (.int (S.2.2.2.2.2.2 u 4) :: st)) : V E nL k n (wX G a S) pc ls (.ref (S.2.2.2.2.1 u) :: st) := by
  obtain ⟨p, l, e, R, s, m, args, below, meth, c, Q, A, G'⟩ := E
  obtain ⟨hx, hb, hml, hown, hts, hK, hA, hlk, rfl, hGG, hW0⟩ := C
  subst G'
  intro H locs arr hP hD hS hl
  have he := X_at (G := G) (a := a) hp
  have K := K H locs arr hP hD hS hl
  unfold pcell at he
  generalize S.2.2.2.2.2.1 u = kd at he hk5
  match kd, hk5, K, he with
  | 0, hk, K, he => exact va_get (D := G.1) (ci := 2) (v := .int (S.2.2.2.2.2.2 u 4)) (C := RX2) (T := TX2) (N := 6) hx hb hts in_X2 hown hK hP (u + 22) he rfl 4 (by decide) (hts _ q295) (fun _ h => h) rfl hd K
  | 1, hk, K, he => exact va_get (D := G.1) (ci := 3) (v := .int (S.2.2.2.2.2.2 u 4)) (C := RX3) (T := TX3) (N := 6) hx hb hts in_X3 hown hK hP (u + 22) he rfl 4 (by decide) (hts _ q295) (fun _ h => h) rfl hd K
  | 2, hk, K, he => exact va_get (D := G.1) (ci := 4) (v := .int (S.2.2.2.2.2.2 u 4)) (C := RX4) (T := TX4) (N := 6) hx hb hts in_X4 hown hK hP (u + 22) he rfl 4 (by decide) (hts _ q295) (fun _ h => h) rfl hd K
  | 3, hk, K, he => exact va_get (D := G.1) (ci := 5) (v := .int (S.2.2.2.2.2.2 u 4)) (C := RX5) (T := TX5) (N := 6) hx hb hts in_X5 hown hK hP (u + 22) he rfl 4 (by decide) (hts _ q295) (fun _ h => h) rfl hd K
  | 4, hk, K, he => exact va_get (D := G.1) (ci := 6) (v := .int (S.2.2.2.2.2.2 u 4)) (C := RX6) (T := TX6) (N := 6) hx hb hts in_X6 hown hK hP (u + 22) he rfl 4 (by decide) (hts _ q295) (fun _ h => h) rfl hd K
theorem X_setp4 {u : Nat} {v : Int32} (hp : u < S.2.2.2.1) : (wX G a S).set (u + 22) (S.2.2.2.2.1 u, .inr (2 + S.2.2.2.2.2.1 u, [.int (S.2.2.2.2.2.2 u 0), .int (S.2.2.2.2.2.2 u 1), .int (S.2.2.2.2.2.2 u 2), .int (S.2.2.2.2.2.2 u 3), .int v, .int (S.2.2.2.2.2.2 u 5)])) = wX G a (setXp S u 4 v) := by
  refine List.ext_getElem? fun i => ?_
  rw [List.getElem?_set]
  by_cases h : u + 22 = i
  · subst h
    rw [if_pos rfl, if_pos (by have := (List.getElem?_eq_some_iff.mp (X_at (G := G) (a := a) hp)).1; exact this)]
    rw [X_at (S := setXp S u 4 v) hp]
    simp [pcell, setXp, va_up]
  · rw [if_neg h]
    by_cases h2 : i < 22
    · have : i ∈ List.range 22 := List.mem_range.mpr h2
      have key : ∀ j ∈ List.range 22, (wX G a S)[j]? = (wX G a (setXp S u 4 v))[j]? := by
        intro j hj
        simp only [List.mem_range] at hj
        rcases j with _ | _ | _ | _ | _ | _ | _ | _ | _ | _ | _ | _ | _ | _ | _ | _ | _ | _ | _ | _ | _ | _ | j <;> first | rfl | (exfalso; omega)
      exact key i this
    · obtain ⟨j, rfl⟩ : ∃ j, i = j + 22 := ⟨i - 22, by omega⟩
      show ((List.range S.2.2.2.1).map (pcell S))[j]? = ((List.range S.2.2.2.1).map (pcell (setXp S u 4 v)))[j]?
      rw [List.getElem?_map, List.getElem?_map]
      by_cases hj : j < S.2.2.2.1
      · rw [List.getElem?_range hj]
        have hne : ¬ j = u := fun e => h (by rw [e])
        simp [pcell, setXp, va_up, hne]
      · rw [List.getElem?_eq_none (by simpa using hj)]
        rfl
theorem P_p4 {u : Nat} {v : Int32} (C : CxOk E RX0 cc nL G rm) (hd : decode cc pc = .ok (.putfield 339, 3)) (hp : u < S.2.2.2.1) (hk5 : S.2.2.2.2.2.1 u < 5) (K : V E nL k n (wX G a (setXp S u 4 v)) (pc + 3) ls st) : V E nL k n (wX G a S) pc ls (.int v :: .ref (S.2.2.2.2.1 u) :: st) := by
  obtain ⟨p, l, e, R, s, m, args, below, meth, c, Q, A, G'⟩ := E
  obtain ⟨hx, hb, hml, hown, hts, hK, hA, hlk, rfl, hGG, hW0⟩ := C
  subst G'
  intro H locs arr hP hD hS hl
  have he := X_at (G := G) (a := a) hp
  unfold pcell at he
  generalize e0 : S.2.2.2.2.2.1 u = kd at he hk5
  match kd, hk5, he with
  | 0, hk, he => exact va_put (D := G.1) (ci := 2) (v := .int v) (ty := .int) (C := RX2) (T := TX2) (N := 6) hx hb hts in_X2 tyX2 tyX2_ok nmX2 hown hK hP hD hS (u + 22) he rfl 4 (by decide) (hts _ q295) (fun _ h => h) rfl (by decide +kernel) rfl rfl (Nat.le_of_ble_eq_true rfl) hd (fun H locs hP hD hS => K H locs arr (by rw [← X_setp4 hp, e0]; exact hP) (by rw [← X_setp4 hp, e0]; exact hD) hS hl)
  | 1, hk, he => exact va_put (D := G.1) (ci := 3) (v := .int v) (ty := .int) (C := RX3) (T := TX3) (N := 6) hx hb hts in_X3 tyX3 tyX3_ok nmX3 hown hK hP hD hS (u + 22) he rfl 4 (by decide) (hts _ q295) (fun _ h => h) rfl (by decide +kernel) rfl rfl (Nat.le_of_ble_eq_true rfl) hd (fun H locs hP hD hS => K H locs arr (by rw [← X_setp4 hp, e0]; exact hP) (by rw [← X_setp4 hp, e0]; exact hD) hS hl)
  | 2, hk, he => exact va_put (D := G.1) (ci := 4) (v := .int v) (ty := .int) (C := RX4) (T := TX4) (N := 6) hx hb hts in_X4 tyX4 tyX4_ok nmX4 hown hK hP hD hS (u + 22) he rfl 4 (by decide) (hts _ q295) (fun _ h => h) rfl (by decide +kernel) rfl rfl (Nat.le_of_ble_eq_true rfl) hd (fun H locs hP hD hS => K H locs arr (by rw [← X_setp4 hp, e0]; exact hP) (by rw [← X_setp4 hp, e0]; exact hD) hS hl)
  | 3, hk, he => exact va_put (D := G.1) (ci := 5) (v := .int v) (ty := .int) (C := RX5) (T := TX5) (N := 6) hx hb hts in_X5 tyX5 tyX5_ok nmX5 hown hK hP hD hS (u + 22) he rfl 4 (by decide) (hts _ q295) (fun _ h => h) rfl (by decide +kernel) rfl rfl (Nat.le_of_ble_eq_true rfl) hd (fun H locs hP hD hS => K H locs arr (by rw [← X_setp4 hp, e0]; exact hP) (by rw [← X_setp4 hp, e0]; exact hD) hS hl)
  | 4, hk, he => exact va_put (D := G.1) (ci := 6) (v := .int v) (ty := .int) (C := RX6) (T := TX6) (N := 6) hx hb hts in_X6 tyX6 tyX6_ok nmX6 hown hK hP hD hS (u + 22) he rfl 4 (by decide) (hts _ q295) (fun _ h => h) rfl (by decide +kernel) rfl rfl (Nat.le_of_ble_eq_true rfl) hd (fun H locs hP hD hS => K H locs arr (by rw [← X_setp4 hp, e0]; exact hP) (by rw [← X_setp4 hp, e0]; exact hD) hS hl)
theorem P_g5 {u : Nat} (C : CxOk E RX0 cc nL G rm) (hd : decode cc pc = .ok (.getfield 342, 3)) (hp : u < S.2.2.2.1) (hk5 : S.2.2.2.2.2.1 u < 5) (K : V E nL k n (wX G a S) (pc + 3) ls (.int (S.2.2.2.2.2.2 u 5) :: st)) : V E nL k n (wX G a S) pc ls (.ref (S.2.2.2.2.1 u) :: st) := by
  obtain ⟨p, l, e, R, s, m, args, below, meth, c, Q, A, G'⟩ := E
  obtain ⟨hx, hb, hml, hown, hts, hK, hA, hlk, rfl, hGG, hW0⟩ := C
  subst G'
  intro H locs arr hP hD hS hl
  have he := X_at (G := G) (a := a) hp
  have K := K H locs arr hP hD hS hl
  unfold pcell at he
  generalize S.2.2.2.2.2.1 u = kd at he hk5
  match kd, hk5, K, he with
  | 0, hk, K, he => exact va_get (D := G.1) (ci := 2) (v := .int (S.2.2.2.2.2.2 u 5)) (C := RX2) (T := TX2) (N := 6) hx hb hts in_X2 hown hK hP (u + 22) he rfl 5 (by decide) (hts _ q296) (fun _ h => h) rfl hd K
  | 1, hk, K, he => exact va_get (D := G.1) (ci := 3) (v := .int (S.2.2.2.2.2.2 u 5)) (C := RX3) (T := TX3) (N := 6) hx hb hts in_X3 hown hK hP (u + 22) he rfl 5 (by decide) (hts _ q296) (fun _ h => h) rfl hd K
  | 2, hk, K, he => exact va_get (D := G.1) (ci := 4) (v := .int (S.2.2.2.2.2.2 u 5)) (C := RX4) (T := TX4) (N := 6) hx hb hts in_X4 hown hK hP (u + 22) he rfl 5 (by decide) (hts _ q296) (fun _ h => h) rfl hd K
  | 3, hk, K, he => exact va_get (D := G.1) (ci := 5) (v := .int (S.2.2.2.2.2.2 u 5)) (C := RX5) (T := TX5) (N := 6) hx hb hts in_X5 hown hK hP (u + 22) he rfl 5 (by decide) (hts _ q296) (fun _ h => h) rfl hd K
  | 4, hk, K, he => exact va_get (D := G.1) (ci := 6) (v := .int (S.2.2.2.2.2.2 u 5)) (C := RX6) (T := TX6) (N := 6) hx hb hts in_X6 hown hK hP (u + 22) he rfl 5 (by decide) (hts _ q296) (fun _ h => h) rfl hd K
theorem X_setp5 {u : Nat} {v : Int32} (hp : u < S.2.2.2.1) : (wX G a S).set (u + 22) (S.2.2.2.2.1 u, .inr (2 + S.2.2.2.2.2.1 u, [.int (S.2.2.2.2.2.2 u 0), .int (S.2.2.2.2.2.2 u 1), .int (S.2.2.2.2.2.2 u 2), .int (S.2.2.2.2.2.2 u 3), .int (S.2.2.2.2.2.2 u 4), .int v])) = wX G a (setXp S u 5 v) := by
  refine List.ext_getElem? fun i => ?_
  rw [List.getElem?_set]
  by_cases h : u + 22 = i
  · subst h
    rw [if_pos rfl, if_pos (by have := (List.getElem?_eq_some_iff.mp (X_at (G := G) (a := a) hp)).1; exact this)]
    rw [X_at (S := setXp S u 5 v) hp]
    simp [pcell, setXp, va_up]
  · rw [if_neg h]
    by_cases h2 : i < 22
    · have : i ∈ List.range 22 := List.mem_range.mpr h2
      have key : ∀ j ∈ List.range 22, (wX G a S)[j]? = (wX G a (setXp S u 5 v))[j]? := by
        intro j hj
        simp only [List.mem_range] at hj
        rcases j with _ | _ | _ | _ | _ | _ | _ | _ | _ | _ | _ | _ | _ | _ | _ | _ | _ | _ | _ | _ | _ | _ | j <;> first | rfl | (exfalso; omega)
      exact key i this
    · obtain ⟨j, rfl⟩ : ∃ j, i = j + 22 := ⟨i - 22, by omega⟩
      show ((List.range S.2.2.2.1).map (pcell S))[j]? = ((List.range S.2.2.2.1).map (pcell (setXp S u 5 v)))[j]?
      rw [List.getElem?_map, List.getElem?_map]
      by_cases hj : j < S.2.2.2.1
      · rw [List.getElem?_range hj]
        have hne : ¬ j = u := fun e => h (by rw [e])
        simp [pcell, setXp, va_up, hne]
      · rw [List.getElem?_eq_none (by simpa using hj)]
        rfl
theorem P_p5 {u : Nat} {v : Int32} (C : CxOk E RX0 cc nL G rm) (hd : decode cc pc = .ok (.putfield 342, 3)) (hp : u < S.2.2.2.1) (hk5 : S.2.2.2.2.2.1 u < 5) (K : V E nL k n (wX G a (setXp S u 5 v)) (pc + 3) ls st) : V E nL k n (wX G a S) pc ls (.int v :: .ref (S.2.2.2.2.1 u) :: st) := by
  obtain ⟨p, l, e, R, s, m, args, below, meth, c, Q, A, G'⟩ := E
  obtain ⟨hx, hb, hml, hown, hts, hK, hA, hlk, rfl, hGG, hW0⟩ := C
  subst G'
  intro H locs arr hP hD hS hl
  have he := X_at (G := G) (a := a) hp
  unfold pcell at he
  generalize e0 : S.2.2.2.2.2.1 u = kd at he hk5
  match kd, hk5, he with
  | 0, hk, he => exact va_put (D := G.1) (ci := 2) (v := .int v) (ty := .int) (C := RX2) (T := TX2) (N := 6) hx hb hts in_X2 tyX2 tyX2_ok nmX2 hown hK hP hD hS (u + 22) he rfl 5 (by decide) (hts _ q296) (fun _ h => h) rfl (by decide +kernel) rfl rfl (Nat.le_of_ble_eq_true rfl) hd (fun H locs hP hD hS => K H locs arr (by rw [← X_setp5 hp, e0]; exact hP) (by rw [← X_setp5 hp, e0]; exact hD) hS hl)
  | 1, hk, he => exact va_put (D := G.1) (ci := 3) (v := .int v) (ty := .int) (C := RX3) (T := TX3) (N := 6) hx hb hts in_X3 tyX3 tyX3_ok nmX3 hown hK hP hD hS (u + 22) he rfl 5 (by decide) (hts _ q296) (fun _ h => h) rfl (by decide +kernel) rfl rfl (Nat.le_of_ble_eq_true rfl) hd (fun H locs hP hD hS => K H locs arr (by rw [← X_setp5 hp, e0]; exact hP) (by rw [← X_setp5 hp, e0]; exact hD) hS hl)
  | 2, hk, he => exact va_put (D := G.1) (ci := 4) (v := .int v) (ty := .int) (C := RX4) (T := TX4) (N := 6) hx hb hts in_X4 tyX4 tyX4_ok nmX4 hown hK hP hD hS (u + 22) he rfl 5 (by decide) (hts _ q296) (fun _ h => h) rfl (by decide +kernel) rfl rfl (Nat.le_of_ble_eq_true rfl) hd (fun H locs hP hD hS => K H locs arr (by rw [← X_setp5 hp, e0]; exact hP) (by rw [← X_setp5 hp, e0]; exact hD) hS hl)
  | 3, hk, he => exact va_put (D := G.1) (ci := 5) (v := .int v) (ty := .int) (C := RX5) (T := TX5) (N := 6) hx hb hts in_X5 tyX5 tyX5_ok nmX5 hown hK hP hD hS (u + 22) he rfl 5 (by decide) (hts _ q296) (fun _ h => h) rfl (by decide +kernel) rfl rfl (Nat.le_of_ble_eq_true rfl) hd (fun H locs hP hD hS => K H locs arr (by rw [← X_setp5 hp, e0]; exact hP) (by rw [← X_setp5 hp, e0]; exact hD) hS hl)
  | 4, hk, he => exact va_put (D := G.1) (ci := 6) (v := .int v) (ty := .int) (C := RX6) (T := TX6) (N := 6) hx hb hts in_X6 tyX6 tyX6_ok nmX6 hown hK hP hD hS (u + 22) he rfl 5 (by decide) (hts _ q296) (fun _ h => h) rfl (by decide +kernel) rfl rfl (Nat.le_of_ble_eq_true rfl) hd (fun H locs hP hD hS => K H locs arr (by rw [← X_setp5 hp, e0]; exact hP) (by rw [← X_setp5 hp, e0]; exact hD) hS hl)
theorem X_c12_13 (C : CxOk E RX0 cc nL G rm) (hd : decode cc pc = .ok (.invokestatic 249, 3)) (hfr : 1 ≤ rm.frames ∧ 40 ≤ rm.locals) (hcat : (st.map fun v => v.category).sum ≤ 8) (K : V E nL k n (wX G a (setXa S 13 (S.2.2.1 12))) (pc + 3) ls st) : V E nL k n (wX G a S) pc ls (.int 5 :: .int 0 :: .ref (a 13) :: .int 0 :: .ref (a 12) :: st) := by
  obtain ⟨p, l, e, R, s, m, args, below, meth, c, Q, A, G'⟩ := E
  obtain ⟨hx, hb, hml, hown, hts, hK, hA, hlk, rfl, hGG, hW0⟩ := C
  subst G'
  intro H locs arr hP hD hS hl
  have hnw : nativeFrameWords "java/lang/System" "arraycopy" 5 ≤ 20 := by decide
  refine va_copyi (ty := .int) hx hb (hml.trans hl.1.symm) hown (hts _ q580) (hts _ q582) (hts _ q581) (hts _ q86) hK hP hD hS 7 8 0 0 rfl rfl rfl rfl rfl (by decide) (by decide) (by decide) (by decide) (by decide) (fun _ _ => rfl) hfr.1 (by omega) hd (fun H locs hP1 _ hS => K H locs arr (va_refn (g := S.2.2.1 12) hP1 (fun j hj => ?_)) (hD.set (p := 8) rfl) hS hl)
  exact sb_cpy0 (n := 5) hj
theorem X_c16_17 (C : CxOk E RX0 cc nL G rm) (hd : decode cc pc = .ok (.invokestatic 249, 3)) (hfr : 1 ≤ rm.frames ∧ 40 ≤ rm.locals) (hcat : (st.map fun v => v.category).sum ≤ 8) (K : V E nL k n (wX G a (setXa S 17 (S.2.2.1 16))) (pc + 3) ls st) : V E nL k n (wX G a S) pc ls (.int 3 :: .int 0 :: .ref (a 17) :: .int 0 :: .ref (a 16) :: st) := by
  obtain ⟨p, l, e, R, s, m, args, below, meth, c, Q, A, G'⟩ := E
  obtain ⟨hx, hb, hml, hown, hts, hK, hA, hlk, rfl, hGG, hW0⟩ := C
  subst G'
  intro H locs arr hP hD hS hl
  have hnw : nativeFrameWords "java/lang/System" "arraycopy" 5 ≤ 20 := by decide
  refine va_copyi (ty := .int) hx hb (hml.trans hl.1.symm) hown (hts _ q580) (hts _ q582) (hts _ q581) (hts _ q86) hK hP hD hS 9 10 0 0 rfl rfl rfl rfl rfl (by decide) (by decide) (by decide) (by decide) (by decide) (fun _ _ => rfl) hfr.1 (by omega) hd (fun H locs hP1 _ hS => K H locs arr (va_refn (g := S.2.2.1 16) hP1 (fun j hj => ?_)) (hD.set (p := 10) rfl) hS hl)
  exact sb_cpy0 (n := 3) hj
theorem X_c8_23 (C : CxOk E RX0 cc nL G rm) (hd : decode cc pc = .ok (.invokestatic 249, 3)) (hfr : 1 ≤ rm.frames ∧ 40 ≤ rm.locals) (hcat : (st.map fun v => v.category).sum ≤ 8) (K : V E nL k n (wX G a (setXa S 23 (S.2.2.1 8))) (pc + 3) ls st) : V E nL k n (wX G a S) pc ls (.int 9 :: .int 0 :: .ref (a 23) :: .int 0 :: .ref (a 8) :: st) := by
  obtain ⟨p, l, e, R, s, m, args, below, meth, c, Q, A, G'⟩ := E
  obtain ⟨hx, hb, hml, hown, hts, hK, hA, hlk, rfl, hGG, hW0⟩ := C
  subst G'
  intro H locs arr hP hD hS hl
  have hnw : nativeFrameWords "java/lang/System" "arraycopy" 5 ≤ 20 := by decide
  refine va_copyi (ty := .int) hx hb (hml.trans hl.1.symm) hown (hts _ q580) (hts _ q582) (hts _ q581) (hts _ q86) hK hP hD hS 5 14 0 0 rfl rfl rfl rfl rfl (by decide) (by decide) (by decide) (by decide) (by decide) (fun _ _ => rfl) hfr.1 (by omega) hd (fun H locs hP1 _ hS => K H locs arr (va_refn (g := S.2.2.1 8) hP1 (fun j hj => ?_)) (hD.set (p := 14) rfl) hS hl)
  exact sb_cpy0 (n := 9) hj
theorem X_c23_8 (C : CxOk E RX0 cc nL G rm) (hd : decode cc pc = .ok (.invokestatic 249, 3)) (hfr : 1 ≤ rm.frames ∧ 40 ≤ rm.locals) (hcat : (st.map fun v => v.category).sum ≤ 8) (K : V E nL k n (wX G a (setXa S 8 (S.2.2.1 23))) (pc + 3) ls st) : V E nL k n (wX G a S) pc ls (.int 9 :: .int 0 :: .ref (a 8) :: .int 0 :: .ref (a 23) :: st) := by
  obtain ⟨p, l, e, R, s, m, args, below, meth, c, Q, A, G'⟩ := E
  obtain ⟨hx, hb, hml, hown, hts, hK, hA, hlk, rfl, hGG, hW0⟩ := C
  subst G'
  intro H locs arr hP hD hS hl
  have hnw : nativeFrameWords "java/lang/System" "arraycopy" 5 ≤ 20 := by decide
  refine va_copyi (ty := .int) hx hb (hml.trans hl.1.symm) hown (hts _ q580) (hts _ q582) (hts _ q581) (hts _ q86) hK hP hD hS 14 5 0 0 rfl rfl rfl rfl rfl (by decide) (by decide) (by decide) (by decide) (by decide) (fun _ _ => rfl) hfr.1 (by omega) hd (fun H locs hP1 _ hS => K H locs arr (va_refn (g := S.2.2.1 23) hP1 (fun j hj => ?_)) (hD.set (p := 5) rfl) hS hl)
  exact sb_cpy0 (n := 9) hj
theorem X_c5_24 (C : CxOk E RX0 cc nL G rm) (hd : decode cc pc = .ok (.invokestatic 249, 3)) (hfr : 1 ≤ rm.frames ∧ 40 ≤ rm.locals) (hcat : (st.map fun v => v.category).sum ≤ 8) (K : V E nL k n (wX G a (setXa S 24 (S.2.2.1 5))) (pc + 3) ls st) : V E nL k n (wX G a S) pc ls (.int 3 :: .int 0 :: .ref (a 24) :: .int 0 :: .ref (a 5) :: st) := by
  obtain ⟨p, l, e, R, s, m, args, below, meth, c, Q, A, G'⟩ := E
  obtain ⟨hx, hb, hml, hown, hts, hK, hA, hlk, rfl, hGG, hW0⟩ := C
  subst G'
  intro H locs arr hP hD hS hl
  have hnw : nativeFrameWords "java/lang/System" "arraycopy" 5 ≤ 20 := by decide
  refine va_copyi (ty := .int) hx hb (hml.trans hl.1.symm) hown (hts _ q580) (hts _ q582) (hts _ q581) (hts _ q86) hK hP hD hS 3 15 0 0 rfl rfl rfl rfl rfl (by decide) (by decide) (by decide) (by decide) (by decide) (fun _ _ => rfl) hfr.1 (by omega) hd (fun H locs hP1 _ hS => K H locs arr (va_refn (g := S.2.2.1 5) hP1 (fun j hj => ?_)) (hD.set (p := 15) rfl) hS hl)
  exact sb_cpy0 (n := 3) hj
theorem X_c24_5 (C : CxOk E RX0 cc nL G rm) (hd : decode cc pc = .ok (.invokestatic 249, 3)) (hfr : 1 ≤ rm.frames ∧ 40 ≤ rm.locals) (hcat : (st.map fun v => v.category).sum ≤ 8) (K : V E nL k n (wX G a (setXa S 5 (S.2.2.1 24))) (pc + 3) ls st) : V E nL k n (wX G a S) pc ls (.int 3 :: .int 0 :: .ref (a 5) :: .int 0 :: .ref (a 24) :: st) := by
  obtain ⟨p, l, e, R, s, m, args, below, meth, c, Q, A, G'⟩ := E
  obtain ⟨hx, hb, hml, hown, hts, hK, hA, hlk, rfl, hGG, hW0⟩ := C
  subst G'
  intro H locs arr hP hD hS hl
  have hnw : nativeFrameWords "java/lang/System" "arraycopy" 5 ≤ 20 := by decide
  refine va_copyi (ty := .int) hx hb (hml.trans hl.1.symm) hown (hts _ q580) (hts _ q582) (hts _ q581) (hts _ q86) hK hP hD hS 15 3 0 0 rfl rfl rfl rfl rfl (by decide) (by decide) (by decide) (by decide) (by decide) (fun _ _ => rfl) hfr.1 (by omega) hd (fun H locs hP1 _ hS => K H locs arr (va_refn (g := S.2.2.1 24) hP1 (fun j hj => ?_)) (hD.set (p := 3) rfl) hS hl)
  exact sb_cpy0 (n := 3) hj
theorem X_c8_26 (C : CxOk E RX0 cc nL G rm) (hd : decode cc pc = .ok (.invokestatic 249, 3)) (hfr : 1 ≤ rm.frames ∧ 40 ≤ rm.locals) (hcat : (st.map fun v => v.category).sum ≤ 8) (K : V E nL k n (wX G a (setXa S 26 (S.2.2.1 8))) (pc + 3) ls st) : V E nL k n (wX G a S) pc ls (.int 9 :: .int 0 :: .ref (a 26) :: .int 0 :: .ref (a 8) :: st) := by
  obtain ⟨p, l, e, R, s, m, args, below, meth, c, Q, A, G'⟩ := E
  obtain ⟨hx, hb, hml, hown, hts, hK, hA, hlk, rfl, hGG, hW0⟩ := C
  subst G'
  intro H locs arr hP hD hS hl
  have hnw : nativeFrameWords "java/lang/System" "arraycopy" 5 ≤ 20 := by decide
  refine va_copyi (ty := .int) hx hb (hml.trans hl.1.symm) hown (hts _ q580) (hts _ q582) (hts _ q581) (hts _ q86) hK hP hD hS 5 17 0 0 rfl rfl rfl rfl rfl (by decide) (by decide) (by decide) (by decide) (by decide) (fun _ _ => rfl) hfr.1 (by omega) hd (fun H locs hP1 _ hS => K H locs arr (va_refn (g := S.2.2.1 8) hP1 (fun j hj => ?_)) (hD.set (p := 17) rfl) hS hl)
  exact sb_cpy0 (n := 9) hj
theorem X_c26_8 (C : CxOk E RX0 cc nL G rm) (hd : decode cc pc = .ok (.invokestatic 249, 3)) (hfr : 1 ≤ rm.frames ∧ 40 ≤ rm.locals) (hcat : (st.map fun v => v.category).sum ≤ 8) (K : V E nL k n (wX G a (setXa S 8 (S.2.2.1 26))) (pc + 3) ls st) : V E nL k n (wX G a S) pc ls (.int 9 :: .int 0 :: .ref (a 8) :: .int 0 :: .ref (a 26) :: st) := by
  obtain ⟨p, l, e, R, s, m, args, below, meth, c, Q, A, G'⟩ := E
  obtain ⟨hx, hb, hml, hown, hts, hK, hA, hlk, rfl, hGG, hW0⟩ := C
  subst G'
  intro H locs arr hP hD hS hl
  have hnw : nativeFrameWords "java/lang/System" "arraycopy" 5 ≤ 20 := by decide
  refine va_copyi (ty := .int) hx hb (hml.trans hl.1.symm) hown (hts _ q580) (hts _ q582) (hts _ q581) (hts _ q86) hK hP hD hS 17 5 0 0 rfl rfl rfl rfl rfl (by decide) (by decide) (by decide) (by decide) (by decide) (fun _ _ => rfl) hfr.1 (by omega) hd (fun H locs hP1 _ hS => K H locs arr (va_refn (g := S.2.2.1 26) hP1 (fun j hj => ?_)) (hD.set (p := 5) rfl) hS hl)
  exact sb_cpy0 (n := 9) hj
theorem X_c5_27 (C : CxOk E RX0 cc nL G rm) (hd : decode cc pc = .ok (.invokestatic 249, 3)) (hfr : 1 ≤ rm.frames ∧ 40 ≤ rm.locals) (hcat : (st.map fun v => v.category).sum ≤ 8) (K : V E nL k n (wX G a (setXa S 27 (S.2.2.1 5))) (pc + 3) ls st) : V E nL k n (wX G a S) pc ls (.int 3 :: .int 0 :: .ref (a 27) :: .int 0 :: .ref (a 5) :: st) := by
  obtain ⟨p, l, e, R, s, m, args, below, meth, c, Q, A, G'⟩ := E
  obtain ⟨hx, hb, hml, hown, hts, hK, hA, hlk, rfl, hGG, hW0⟩ := C
  subst G'
  intro H locs arr hP hD hS hl
  have hnw : nativeFrameWords "java/lang/System" "arraycopy" 5 ≤ 20 := by decide
  refine va_copyi (ty := .int) hx hb (hml.trans hl.1.symm) hown (hts _ q580) (hts _ q582) (hts _ q581) (hts _ q86) hK hP hD hS 3 18 0 0 rfl rfl rfl rfl rfl (by decide) (by decide) (by decide) (by decide) (by decide) (fun _ _ => rfl) hfr.1 (by omega) hd (fun H locs hP1 _ hS => K H locs arr (va_refn (g := S.2.2.1 5) hP1 (fun j hj => ?_)) (hD.set (p := 18) rfl) hS hl)
  exact sb_cpy0 (n := 3) hj
theorem X_c27_5 (C : CxOk E RX0 cc nL G rm) (hd : decode cc pc = .ok (.invokestatic 249, 3)) (hfr : 1 ≤ rm.frames ∧ 40 ≤ rm.locals) (hcat : (st.map fun v => v.category).sum ≤ 8) (K : V E nL k n (wX G a (setXa S 5 (S.2.2.1 27))) (pc + 3) ls st) : V E nL k n (wX G a S) pc ls (.int 3 :: .int 0 :: .ref (a 5) :: .int 0 :: .ref (a 27) :: st) := by
  obtain ⟨p, l, e, R, s, m, args, below, meth, c, Q, A, G'⟩ := E
  obtain ⟨hx, hb, hml, hown, hts, hK, hA, hlk, rfl, hGG, hW0⟩ := C
  subst G'
  intro H locs arr hP hD hS hl
  have hnw : nativeFrameWords "java/lang/System" "arraycopy" 5 ≤ 20 := by decide
  refine va_copyi (ty := .int) hx hb (hml.trans hl.1.symm) hown (hts _ q580) (hts _ q582) (hts _ q581) (hts _ q86) hK hP hD hS 18 3 0 0 rfl rfl rfl rfl rfl (by decide) (by decide) (by decide) (by decide) (by decide) (fun _ _ => rfl) hfr.1 (by omega) hd (fun H locs hP1 _ hS => K H locs arr (va_refn (g := S.2.2.1 27) hP1 (fun j hj => ?_)) (hD.set (p := 3) rfl) hS hl)
  exact sb_cpy0 (n := 3) hj
theorem X_c18_28 (C : CxOk E RX0 cc nL G rm) (hd : decode cc pc = .ok (.invokestatic 249, 3)) (hfr : 1 ≤ rm.frames ∧ 40 ≤ rm.locals) (hcat : (st.map fun v => v.category).sum ≤ 8) (K : V E nL k n (wX G a (setXa S 28 (S.2.2.1 18))) (pc + 3) ls st) : V E nL k n (wX G a S) pc ls (.int 6 :: .int 0 :: .ref (a 28) :: .int 0 :: .ref (a 18) :: st) := by
  obtain ⟨p, l, e, R, s, m, args, below, meth, c, Q, A, G'⟩ := E
  obtain ⟨hx, hb, hml, hown, hts, hK, hA, hlk, rfl, hGG, hW0⟩ := C
  subst G'
  intro H locs arr hP hD hS hl
  have hnw : nativeFrameWords "java/lang/System" "arraycopy" 5 ≤ 20 := by decide
  refine va_copyi (ty := .int) hx hb (hml.trans hl.1.symm) hown (hts _ q580) (hts _ q582) (hts _ q581) (hts _ q86) hK hP hD hS 11 19 0 0 rfl rfl rfl rfl rfl (by decide) (by decide) (by decide) (by decide) (by decide) (fun _ _ => rfl) hfr.1 (by omega) hd (fun H locs hP1 _ hS => K H locs arr (va_refn (g := S.2.2.1 18) hP1 (fun j hj => ?_)) (hD.set (p := 19) rfl) hS hl)
  exact sb_cpy0 (n := 6) hj
theorem X_c28_18 (C : CxOk E RX0 cc nL G rm) (hd : decode cc pc = .ok (.invokestatic 249, 3)) (hfr : 1 ≤ rm.frames ∧ 40 ≤ rm.locals) (hcat : (st.map fun v => v.category).sum ≤ 8) (K : V E nL k n (wX G a (setXa S 18 (S.2.2.1 28))) (pc + 3) ls st) : V E nL k n (wX G a S) pc ls (.int 6 :: .int 0 :: .ref (a 18) :: .int 0 :: .ref (a 28) :: st) := by
  obtain ⟨p, l, e, R, s, m, args, below, meth, c, Q, A, G'⟩ := E
  obtain ⟨hx, hb, hml, hown, hts, hK, hA, hlk, rfl, hGG, hW0⟩ := C
  subst G'
  intro H locs arr hP hD hS hl
  have hnw : nativeFrameWords "java/lang/System" "arraycopy" 5 ≤ 20 := by decide
  refine va_copyi (ty := .int) hx hb (hml.trans hl.1.symm) hown (hts _ q580) (hts _ q582) (hts _ q581) (hts _ q86) hK hP hD hS 19 11 0 0 rfl rfl rfl rfl rfl (by decide) (by decide) (by decide) (by decide) (by decide) (fun _ _ => rfl) hfr.1 (by omega) hd (fun H locs hP1 _ hS => K H locs arr (va_refn (g := S.2.2.1 28) hP1 (fun j hj => ?_)) (hD.set (p := 11) rfl) hS hl)
  exact sb_cpy0 (n := 6) hj
theorem X_c19_29 (C : CxOk E RX0 cc nL G rm) (hd : decode cc pc = .ok (.invokestatic 249, 3)) (hfr : 1 ≤ rm.frames ∧ 40 ≤ rm.locals) (hcat : (st.map fun v => v.category).sum ≤ 8) (K : V E nL k n (wX G a (setXa S 29 (S.2.2.1 19))) (pc + 3) ls st) : V E nL k n (wX G a S) pc ls (.int 6 :: .int 0 :: .ref (a 29) :: .int 0 :: .ref (a 19) :: st) := by
  obtain ⟨p, l, e, R, s, m, args, below, meth, c, Q, A, G'⟩ := E
  obtain ⟨hx, hb, hml, hown, hts, hK, hA, hlk, rfl, hGG, hW0⟩ := C
  subst G'
  intro H locs arr hP hD hS hl
  have hnw : nativeFrameWords "java/lang/System" "arraycopy" 5 ≤ 20 := by decide
  refine va_copyi (ty := .int) hx hb (hml.trans hl.1.symm) hown (hts _ q580) (hts _ q582) (hts _ q581) (hts _ q86) hK hP hD hS 12 20 0 0 rfl rfl rfl rfl rfl (by decide) (by decide) (by decide) (by decide) (by decide) (fun _ _ => rfl) hfr.1 (by omega) hd (fun H locs hP1 _ hS => K H locs arr (va_refn (g := S.2.2.1 19) hP1 (fun j hj => ?_)) (hD.set (p := 20) rfl) hS hl)
  exact sb_cpy0 (n := 6) hj
theorem X_c29_19 (C : CxOk E RX0 cc nL G rm) (hd : decode cc pc = .ok (.invokestatic 249, 3)) (hfr : 1 ≤ rm.frames ∧ 40 ≤ rm.locals) (hcat : (st.map fun v => v.category).sum ≤ 8) (K : V E nL k n (wX G a (setXa S 19 (S.2.2.1 29))) (pc + 3) ls st) : V E nL k n (wX G a S) pc ls (.int 6 :: .int 0 :: .ref (a 19) :: .int 0 :: .ref (a 29) :: st) := by
  obtain ⟨p, l, e, R, s, m, args, below, meth, c, Q, A, G'⟩ := E
  obtain ⟨hx, hb, hml, hown, hts, hK, hA, hlk, rfl, hGG, hW0⟩ := C
  subst G'
  intro H locs arr hP hD hS hl
  have hnw : nativeFrameWords "java/lang/System" "arraycopy" 5 ≤ 20 := by decide
  refine va_copyi (ty := .int) hx hb (hml.trans hl.1.symm) hown (hts _ q580) (hts _ q582) (hts _ q581) (hts _ q86) hK hP hD hS 20 12 0 0 rfl rfl rfl rfl rfl (by decide) (by decide) (by decide) (by decide) (by decide) (fun _ _ => rfl) hfr.1 (by omega) hd (fun H locs hP1 _ hS => K H locs arr (va_refn (g := S.2.2.1 29) hP1 (fun j hj => ?_)) (hD.set (p := 12) rfl) hS hl)
  exact sb_cpy0 (n := 6) hj
theorem X_c20_30 (C : CxOk E RX0 cc nL G rm) (hd : decode cc pc = .ok (.invokestatic 249, 3)) (hz : ∀ i, i < 6 → fits .boolean (.int (S.2.2.1 20 i)) = true) (hfr : 1 ≤ rm.frames ∧ 40 ≤ rm.locals) (hcat : (st.map fun v => v.category).sum ≤ 8) (K : V E nL k n (wX G a (setXa S 30 (S.2.2.1 20))) (pc + 3) ls st) : V E nL k n (wX G a S) pc ls (.int 6 :: .int 0 :: .ref (a 30) :: .int 0 :: .ref (a 20) :: st) := by
  obtain ⟨p, l, e, R, s, m, args, below, meth, c, Q, A, G'⟩ := E
  obtain ⟨hx, hb, hml, hown, hts, hK, hA, hlk, rfl, hGG, hW0⟩ := C
  subst G'
  intro H locs arr hP hD hS hl
  have hnw : nativeFrameWords "java/lang/System" "arraycopy" 5 ≤ 20 := by decide
  refine va_copyi (ty := .boolean) hx hb (hml.trans hl.1.symm) hown (hts _ q580) (hts _ q582) (hts _ q581) (hts _ q86) hK hP hD hS 13 21 1 1 rfl rfl rfl rfl rfl (by decide) (by decide) (by decide) (by decide) (by decide) (fun i hi => by have := hz i hi; simpa using this) hfr.1 (by omega) hd (fun H locs hP1 _ hS => K H locs arr (va_refn (g := S.2.2.1 20) hP1 (fun j hj => ?_)) (hD.set (p := 21) rfl) hS hl)
  exact sb_cpy0 (n := 6) hj
theorem X_c30_20 (C : CxOk E RX0 cc nL G rm) (hd : decode cc pc = .ok (.invokestatic 249, 3)) (hz : ∀ i, i < 6 → fits .boolean (.int (S.2.2.1 30 i)) = true) (hfr : 1 ≤ rm.frames ∧ 40 ≤ rm.locals) (hcat : (st.map fun v => v.category).sum ≤ 8) (K : V E nL k n (wX G a (setXa S 20 (S.2.2.1 30))) (pc + 3) ls st) : V E nL k n (wX G a S) pc ls (.int 6 :: .int 0 :: .ref (a 20) :: .int 0 :: .ref (a 30) :: st) := by
  obtain ⟨p, l, e, R, s, m, args, below, meth, c, Q, A, G'⟩ := E
  obtain ⟨hx, hb, hml, hown, hts, hK, hA, hlk, rfl, hGG, hW0⟩ := C
  subst G'
  intro H locs arr hP hD hS hl
  have hnw : nativeFrameWords "java/lang/System" "arraycopy" 5 ≤ 20 := by decide
  refine va_copyi (ty := .boolean) hx hb (hml.trans hl.1.symm) hown (hts _ q580) (hts _ q582) (hts _ q581) (hts _ q86) hK hP hD hS 21 13 1 1 rfl rfl rfl rfl rfl (by decide) (by decide) (by decide) (by decide) (by decide) (fun i hi => by have := hz i hi; simpa using this) hfr.1 (by omega) hd (fun H locs hP1 _ hS => K H locs arr (va_refn (g := S.2.2.1 30) hP1 (fun j hj => ?_)) (hD.set (p := 13) rfl) hS hl)
  exact sb_cpy0 (n := 6) hj
end VX
