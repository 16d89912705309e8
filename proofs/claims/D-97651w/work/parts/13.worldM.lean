
set_option maxRecDepth 100000
abbrev StM : Type := (Nat → Int32) × (Nat → Int64) × (Nat → Nat → Int32)
def fsM (b : Nat → Nat) (T : StM) : List Value := [.int (T.1 0), .int (T.1 1), .int (T.1 2), .ref (b 3), .ref (b 4), .ref (b 5), .int (T.1 6), .ref (b 7), .ref (b 8), .ref (b 9), .ref (b 10), .ref (b 11), .int (T.1 12), .ref (b 13), .ref (b 14), .ref (b 15), .int (T.1 16), .int (T.1 17), .ref (b 18), .int (T.1 19), .int (T.1 20), .int (T.1 21), .int (T.1 22), .ref (b 23), .int (T.1 24), .ref (b 25), .long (T.2.1 26), .ref (b 27), .int (T.1 28), .int (T.1 29), .int (T.1 30), .int (T.1 31), .ref (b 32), .ref (b 33), .ref (b 34), .ref (b 35), .ref (b 36), .ref (b 37), .ref (b 38), .long (T.2.1 39)]
def wM (G : Gx) (b : Nat → Nat) (T : StM) : va_W := [(b 0, .inr (1, fsM b T)), (b 3, .inl (G.2.1 0, 5, .inl (T.2.2 3))), (b 4, .inl (G.2.1 0, 5, .inl (T.2.2 4))), (b 5, .inl (G.2.1 0, 3, .inl (T.2.2 5))), (b 7, .inl (G.2.1 0, 3, .inl (T.2.2 7))), (b 8, .inl (G.2.1 0, 3, .inl (T.2.2 8))), (b 9, .inl (G.2.1 0, 3, .inl (T.2.2 9))), (b 10, .inl (G.2.1 0, 3, .inl (T.2.2 10))), (b 11, .inl (G.2.1 0, 9, .inl (T.2.2 11))), (b 13, .inl (G.2.1 0, 6, .inl (T.2.2 13))), (b 14, .inl (G.2.1 0, 6, .inl (T.2.2 14))), (b 15, .inl (G.2.1 0, 6, .inl (T.2.2 15))), (b 18, .inl (G.2.1 2, 18, .inl (T.2.2 18))), (b 23, .inl (G.2.1 0, 5, .inl (T.2.2 23))), (b 25, .inl (G.2.1 0, 5, .inl (T.2.2 25))), (b 27, .inl (G.2.1 0, 15, .inl (T.2.2 27))), (b 32, .inl (G.2.1 0, 9, .inl (T.2.2 32))), (b 33, .inl (G.2.1 0, 3, .inl (T.2.2 33))), (b 34, .inl (G.2.1 0, 3, .inl (T.2.2 34))), (b 35, .inl (G.2.1 0, 3, .inl (T.2.2 35))), (b 36, .inl (G.2.1 0, 6, .inl (T.2.2 36))), (b 37, .inl (G.2.1 0, 6, .inl (T.2.2 37))), (b 38, .inl (G.2.1 0, 6, .inl (T.2.2 38)))]
def setMi (T : StM) (f : Nat) (v : Int32) : StM := (va_up T.1 f v, T.2)
def setMl (T : StM) (f : Nat) (v : Int64) : StM := (T.1, va_up T.2.1 f v, T.2.2)
def setMa (T : StM) (f : Nat) (g : Nat → Int32) : StM := (T.1, T.2.1, va_up T.2.2 f g)
section VM
variable {E : Cx} {cc : ByteArray} {nL k n : Nat} {G : Gx} {rm : Room} {pc : Nat} {ls : List (Option Value)} {st : List Value} {b : Nat → Nat} {T : StM}
theorem M_g0 (C : CxOk E RX1 cc nL G rm) (hd : decode cc pc = .ok (.getfield 113, 3)) (K : V E nL k n (wM G b T) (pc + 3) ls (.int (T.1 0) :: st)) : V E nL k n (wM G b T) pc ls (.ref (b 0) :: st) := by
  obtain ⟨p, l, e, R, s, m, args, below, meth, c, Q, A, G'⟩ := E
  obtain ⟨hx, hb, hml, hown, hts, hK, hA, hlk, rfl, hGG, hW0⟩ := C
  subst G'
  exact fun H locs arr hP hD hS hl => va_get (D := G.1) (ci := 1) (v := .int (T.1 0)) (C := RX1) (T := TX1) (N := 40) hx hb hts in_X1 hown hK hP 0 rfl rfl 0 (by decide) (hts _ q701) (fun _ h => h) rfl hd (K H locs arr hP hD hS hl)
theorem M_p0 {v : Int32} (C : CxOk E RX1 cc nL G rm) (hd : decode cc pc = .ok (.putfield 113, 3)) (K : V E nL k n (wM G b (setMi T 0 v)) (pc + 3) ls st) : V E nL k n (wM G b T) pc ls (.int v :: .ref (b 0) :: st) := by
  obtain ⟨p, l, e, R, s, m, args, below, meth, c, Q, A, G'⟩ := E
  obtain ⟨hx, hb, hml, hown, hts, hK, hA, hlk, rfl, hGG, hW0⟩ := C
  subst G'
  exact fun H locs arr hP hD hS hl => va_put (D := G.1) (ci := 1) (v := .int v) (ty := .int) (C := RX1) (T := TX1) (N := 40) hx hb hts in_X1 tyX1 tyX1_ok nmX1 hown hK hP hD hS 0 rfl rfl 0 (by decide) (hts _ q701) (fun _ h => h) rfl (by decide +kernel) rfl rfl (Nat.le_of_ble_eq_true rfl) hd (fun H locs hP hD hS => K H locs arr hP hD hS hl)
theorem M_g1 (C : CxOk E RX1 cc nL G rm) (hd : decode cc pc = .ok (.getfield 107, 3)) (K : V E nL k n (wM G b T) (pc + 3) ls (.int (T.1 1) :: st)) : V E nL k n (wM G b T) pc ls (.ref (b 0) :: st) := by
  obtain ⟨p, l, e, R, s, m, args, below, meth, c, Q, A, G'⟩ := E
  obtain ⟨hx, hb, hml, hown, hts, hK, hA, hlk, rfl, hGG, hW0⟩ := C
  subst G'
  exact fun H locs arr hP hD hS hl => va_get (D := G.1) (ci := 1) (v := .int (T.1 1)) (C := RX1) (T := TX1) (N := 40) hx hb hts in_X1 hown hK hP 0 rfl rfl 1 (by decide) (hts _ q702) (fun _ h => h) rfl hd (K H locs arr hP hD hS hl)
theorem M_p1 {v : Int32} (C : CxOk E RX1 cc nL G rm) (hd : decode cc pc = .ok (.putfield 107, 3)) (K : V E nL k n (wM G b (setMi T 1 v)) (pc + 3) ls st) : V E nL k n (wM G b T) pc ls (.int v :: .ref (b 0) :: st) := by
  obtain ⟨p, l, e, R, s, m, args, below, meth, c, Q, A, G'⟩ := E
  obtain ⟨hx, hb, hml, hown, hts, hK, hA, hlk, rfl, hGG, hW0⟩ := C
  subst G'
  exact fun H locs arr hP hD hS hl => va_put (D := G.1) (ci := 1) (v := .int v) (ty := .int) (C := RX1) (T := TX1) (N := 40) hx hb hts in_X1 tyX1 tyX1_ok nmX1 hown hK hP hD hS 0 rfl rfl 1 (by decide) (hts _ q702) (fun _ h => h) rfl (by decide +kernel) rfl rfl (Nat.le_of_ble_eq_true rfl) hd (fun H locs hP hD hS => K H locs arr hP hD hS hl)
theorem M_g2 (C : CxOk E RX1 cc nL G rm) (hd : decode cc pc = .ok (.getfield 110, 3)) (K : V E nL k n (wM G b T) (pc + 3) ls (.int (T.1 2) :: st)) : V E nL k n (wM G b T) pc ls (.ref (b 0) :: st) := by
  obtain ⟨p, l, e, R, s, m, args, below, meth, c, Q, A, G'⟩ := E
  obtain ⟨hx, hb, hml, hown, hts, hK, hA, hlk, rfl, hGG, hW0⟩ := C
  subst G'
  exact fun H locs arr hP hD hS hl => va_get (D := G.1) (ci := 1) (v := .int (T.1 2)) (C := RX1) (T := TX1) (N := 40) hx hb hts in_X1 hown hK hP 0 rfl rfl 2 (by decide) (hts _ q703) (fun _ h => h) rfl hd (K H locs arr hP hD hS hl)
theorem M_p2 {v : Int32} (C : CxOk E RX1 cc nL G rm) (hd : decode cc pc = .ok (.putfield 110, 3)) (K : V E nL k n (wM G b (setMi T 2 v)) (pc + 3) ls st) : V E nL k n (wM G b T) pc ls (.int v :: .ref (b 0) :: st) := by
  obtain ⟨p, l, e, R, s, m, args, below, meth, c, Q, A, G'⟩ := E
  obtain ⟨hx, hb, hml, hown, hts, hK, hA, hlk, rfl, hGG, hW0⟩ := C
  subst G'
  exact fun H locs arr hP hD hS hl => va_put (D := G.1) (ci := 1) (v := .int v) (ty := .int) (C := RX1) (T := TX1) (N := 40) hx hb hts in_X1 tyX1 tyX1_ok nmX1 hown hK hP hD hS 0 rfl rfl 2 (by decide) (hts _ q703) (fun _ h => h) rfl (by decide +kernel) rfl rfl (Nat.le_of_ble_eq_true rfl) hd (fun H locs hP hD hS => K H locs arr hP hD hS hl)
theorem M_g3 (C : CxOk E RX1 cc nL G rm) (hd : decode cc pc = .ok (.getfield 7, 3)) (K : V E nL k n (wM G b T) (pc + 3) ls (.ref (b 3) :: st)) : V E nL k n (wM G b T) pc ls (.ref (b 0) :: st) := by
  obtain ⟨p, l, e, R, s, m, args, below, meth, c, Q, A, G'⟩ := E
  obtain ⟨hx, hb, hml, hown, hts, hK, hA, hlk, rfl, hGG, hW0⟩ := C
  subst G'
  exact fun H locs arr hP hD hS hl => va_get (D := G.1) (ci := 1) (v := .ref (b 3)) (C := RX1) (T := TX1) (N := 40) hx hb hts in_X1 hown hK hP 0 rfl rfl 3 (by decide) (hts _ q704) (fun _ h => h) rfl hd (K H locs arr hP hD hS hl)
theorem M_g4 (C : CxOk E RX1 cc nL G rm) (hd : decode cc pc = .ok (.getfield 13, 3)) (K : V E nL k n (wM G b T) (pc + 3) ls (.ref (b 4) :: st)) : V E nL k n (wM G b T) pc ls (.ref (b 0) :: st) := by
  obtain ⟨p, l, e, R, s, m, args, below, meth, c, Q, A, G'⟩ := E
  obtain ⟨hx, hb, hml, hown, hts, hK, hA, hlk, rfl, hGG, hW0⟩ := C
  subst G'
  exact fun H locs arr hP hD hS hl => va_get (D := G.1) (ci := 1) (v := .ref (b 4)) (C := RX1) (T := TX1) (N := 40) hx hb hts in_X1 hown hK hP 0 rfl rfl 4 (by decide) (hts _ q705) (fun _ h => h) rfl hd (K H locs arr hP hD hS hl)
theorem M_g5 (C : CxOk E RX1 cc nL G rm) (hd : decode cc pc = .ok (.getfield 16, 3)) (K : V E nL k n (wM G b T) (pc + 3) ls (.ref (b 5) :: st)) : V E nL k n (wM G b T) pc ls (.ref (b 0) :: st) := by
  obtain ⟨p, l, e, R, s, m, args, below, meth, c, Q, A, G'⟩ := E
  obtain ⟨hx, hb, hml, hown, hts, hK, hA, hlk, rfl, hGG, hW0⟩ := C
  subst G'
  exact fun H locs arr hP hD hS hl => va_get (D := G.1) (ci := 1) (v := .ref (b 5)) (C := RX1) (T := TX1) (N := 40) hx hb hts in_X1 hown hK hP 0 rfl rfl 5 (by decide) (hts _ q706) (fun _ h => h) rfl hd (K H locs arr hP hD hS hl)
theorem M_g6 (C : CxOk E RX1 cc nL G rm) (hd : decode cc pc = .ok (.getfield 116, 3)) (K : V E nL k n (wM G b T) (pc + 3) ls (.int (T.1 6) :: st)) : V E nL k n (wM G b T) pc ls (.ref (b 0) :: st) := by
  obtain ⟨p, l, e, R, s, m, args, below, meth, c, Q, A, G'⟩ := E
  obtain ⟨hx, hb, hml, hown, hts, hK, hA, hlk, rfl, hGG, hW0⟩ := C
  subst G'
  exact fun H locs arr hP hD hS hl => va_get (D := G.1) (ci := 1) (v := .int (T.1 6)) (C := RX1) (T := TX1) (N := 40) hx hb hts in_X1 hown hK hP 0 rfl rfl 6 (by decide) (hts _ q707) (fun _ h => h) rfl hd (K H locs arr hP hD hS hl)
theorem M_p6 {v : Int32} (C : CxOk E RX1 cc nL G rm) (hd : decode cc pc = .ok (.putfield 116, 3)) (K : V E nL k n (wM G b (setMi T 6 v)) (pc + 3) ls st) : V E nL k n (wM G b T) pc ls (.int v :: .ref (b 0) :: st) := by
  obtain ⟨p, l, e, R, s, m, args, below, meth, c, Q, A, G'⟩ := E
  obtain ⟨hx, hb, hml, hown, hts, hK, hA, hlk, rfl, hGG, hW0⟩ := C
  subst G'
  exact fun H locs arr hP hD hS hl => va_put (D := G.1) (ci := 1) (v := .int v) (ty := .int) (C := RX1) (T := TX1) (N := 40) hx hb hts in_X1 tyX1 tyX1_ok nmX1 hown hK hP hD hS 0 rfl rfl 6 (by decide) (hts _ q707) (fun _ h => h) rfl (by decide +kernel) rfl rfl (Nat.le_of_ble_eq_true rfl) hd (fun H locs hP hD hS => K H locs arr hP hD hS hl)
theorem M_g7 (C : CxOk E RX1 cc nL G rm) (hd : decode cc pc = .ok (.getfield 19, 3)) (K : V E nL k n (wM G b T) (pc + 3) ls (.ref (b 7) :: st)) : V E nL k n (wM G b T) pc ls (.ref (b 0) :: st) := by
  obtain ⟨p, l, e, R, s, m, args, below, meth, c, Q, A, G'⟩ := E
  obtain ⟨hx, hb, hml, hown, hts, hK, hA, hlk, rfl, hGG, hW0⟩ := C
  subst G'
  exact fun H locs arr hP hD hS hl => va_get (D := G.1) (ci := 1) (v := .ref (b 7)) (C := RX1) (T := TX1) (N := 40) hx hb hts in_X1 hown hK hP 0 rfl rfl 7 (by decide) (hts _ q708) (fun _ h => h) rfl hd (K H locs arr hP hD hS hl)
theorem M_g8 (C : CxOk E RX1 cc nL G rm) (hd : decode cc pc = .ok (.getfield 22, 3)) (K : V E nL k n (wM G b T) (pc + 3) ls (.ref (b 8) :: st)) : V E nL k n (wM G b T) pc ls (.ref (b 0) :: st) := by
  obtain ⟨p, l, e, R, s, m, args, below, meth, c, Q, A, G'⟩ := E
  obtain ⟨hx, hb, hml, hown, hts, hK, hA, hlk, rfl, hGG, hW0⟩ := C
  subst G'
  exact fun H locs arr hP hD hS hl => va_get (D := G.1) (ci := 1) (v := .ref (b 8)) (C := RX1) (T := TX1) (N := 40) hx hb hts in_X1 hown hK hP 0 rfl rfl 8 (by decide) (hts _ q709) (fun _ h => h) rfl hd (K H locs arr hP hD hS hl)
theorem M_g9 (C : CxOk E RX1 cc nL G rm) (hd : decode cc pc = .ok (.getfield 25, 3)) (K : V E nL k n (wM G b T) (pc + 3) ls (.ref (b 9) :: st)) : V E nL k n (wM G b T) pc ls (.ref (b 0) :: st) := by
  obtain ⟨p, l, e, R, s, m, args, below, meth, c, Q, A, G'⟩ := E
  obtain ⟨hx, hb, hml, hown, hts, hK, hA, hlk, rfl, hGG, hW0⟩ := C
  subst G'
  exact fun H locs arr hP hD hS hl => va_get (D := G.1) (ci := 1) (v := .ref (b 9)) (C := RX1) (T := TX1) (N := 40) hx hb hts in_X1 hown hK hP 0 rfl rfl 9 (by decide) (hts _ q710) (fun _ h => h) rfl hd (K H locs arr hP hD hS hl)
theorem M_g10 (C : CxOk E RX1 cc nL G rm) (hd : decode cc pc = .ok (.getfield 28, 3)) (K : V E nL k n (wM G b T) (pc + 3) ls (.ref (b 10) :: st)) : V E nL k n (wM G b T) pc ls (.ref (b 0) :: st) := by
  obtain ⟨p, l, e, R, s, m, args, below, meth, c, Q, A, G'⟩ := E
  obtain ⟨hx, hb, hml, hown, hts, hK, hA, hlk, rfl, hGG, hW0⟩ := C
  subst G'
  exact fun H locs arr hP hD hS hl => va_get (D := G.1) (ci := 1) (v := .ref (b 10)) (C := RX1) (T := TX1) (N := 40) hx hb hts in_X1 hown hK hP 0 rfl rfl 10 (by decide) (hts _ q711) (fun _ h => h) rfl hd (K H locs arr hP hD hS hl)
theorem M_g11 (C : CxOk E RX1 cc nL G rm) (hd : decode cc pc = .ok (.getfield 31, 3)) (K : V E nL k n (wM G b T) (pc + 3) ls (.ref (b 11) :: st)) : V E nL k n (wM G b T) pc ls (.ref (b 0) :: st) := by
  obtain ⟨p, l, e, R, s, m, args, below, meth, c, Q, A, G'⟩ := E
  obtain ⟨hx, hb, hml, hown, hts, hK, hA, hlk, rfl, hGG, hW0⟩ := C
  subst G'
  exact fun H locs arr hP hD hS hl => va_get (D := G.1) (ci := 1) (v := .ref (b 11)) (C := RX1) (T := TX1) (N := 40) hx hb hts in_X1 hown hK hP 0 rfl rfl 11 (by decide) (hts _ q712) (fun _ h => h) rfl hd (K H locs arr hP hD hS hl)
theorem M_g12 (C : CxOk E RX1 cc nL G rm) (hd : decode cc pc = .ok (.getfield 119, 3)) (K : V E nL k n (wM G b T) (pc + 3) ls (.int (T.1 12) :: st)) : V E nL k n (wM G b T) pc ls (.ref (b 0) :: st) := by
  obtain ⟨p, l, e, R, s, m, args, below, meth, c, Q, A, G'⟩ := E
  obtain ⟨hx, hb, hml, hown, hts, hK, hA, hlk, rfl, hGG, hW0⟩ := C
  subst G'
  exact fun H locs arr hP hD hS hl => va_get (D := G.1) (ci := 1) (v := .int (T.1 12)) (C := RX1) (T := TX1) (N := 40) hx hb hts in_X1 hown hK hP 0 rfl rfl 12 (by decide) (hts _ q713) (fun _ h => h) rfl hd (K H locs arr hP hD hS hl)
theorem M_p12 {v : Int32} (C : CxOk E RX1 cc nL G rm) (hd : decode cc pc = .ok (.putfield 119, 3)) (K : V E nL k n (wM G b (setMi T 12 v)) (pc + 3) ls st) : V E nL k n (wM G b T) pc ls (.int v :: .ref (b 0) :: st) := by
  obtain ⟨p, l, e, R, s, m, args, below, meth, c, Q, A, G'⟩ := E
  obtain ⟨hx, hb, hml, hown, hts, hK, hA, hlk, rfl, hGG, hW0⟩ := C
  subst G'
  exact fun H locs arr hP hD hS hl => va_put (D := G.1) (ci := 1) (v := .int v) (ty := .int) (C := RX1) (T := TX1) (N := 40) hx hb hts in_X1 tyX1 tyX1_ok nmX1 hown hK hP hD hS 0 rfl rfl 12 (by decide) (hts _ q713) (fun _ h => h) rfl (by decide +kernel) rfl rfl (Nat.le_of_ble_eq_true rfl) hd (fun H locs hP hD hS => K H locs arr hP hD hS hl)
theorem M_g13 (C : CxOk E RX1 cc nL G rm) (hd : decode cc pc = .ok (.getfield 34, 3)) (K : V E nL k n (wM G b T) (pc + 3) ls (.ref (b 13) :: st)) : V E nL k n (wM G b T) pc ls (.ref (b 0) :: st) := by
  obtain ⟨p, l, e, R, s, m, args, below, meth, c, Q, A, G'⟩ := E
  obtain ⟨hx, hb, hml, hown, hts, hK, hA, hlk, rfl, hGG, hW0⟩ := C
  subst G'
  exact fun H locs arr hP hD hS hl => va_get (D := G.1) (ci := 1) (v := .ref (b 13)) (C := RX1) (T := TX1) (N := 40) hx hb hts in_X1 hown hK hP 0 rfl rfl 13 (by decide) (hts _ q714) (fun _ h => h) rfl hd (K H locs arr hP hD hS hl)
theorem M_g14 (C : CxOk E RX1 cc nL G rm) (hd : decode cc pc = .ok (.getfield 37, 3)) (K : V E nL k n (wM G b T) (pc + 3) ls (.ref (b 14) :: st)) : V E nL k n (wM G b T) pc ls (.ref (b 0) :: st) := by
  obtain ⟨p, l, e, R, s, m, args, below, meth, c, Q, A, G'⟩ := E
  obtain ⟨hx, hb, hml, hown, hts, hK, hA, hlk, rfl, hGG, hW0⟩ := C
  subst G'
  exact fun H locs arr hP hD hS hl => va_get (D := G.1) (ci := 1) (v := .ref (b 14)) (C := RX1) (T := TX1) (N := 40) hx hb hts in_X1 hown hK hP 0 rfl rfl 14 (by decide) (hts _ q715) (fun _ h => h) rfl hd (K H locs arr hP hD hS hl)
theorem M_g15 (C : CxOk E RX1 cc nL G rm) (hd : decode cc pc = .ok (.getfield 40, 3)) (K : V E nL k n (wM G b T) (pc + 3) ls (.ref (b 15) :: st)) : V E nL k n (wM G b T) pc ls (.ref (b 0) :: st) := by
  obtain ⟨p, l, e, R, s, m, args, below, meth, c, Q, A, G'⟩ := E
  obtain ⟨hx, hb, hml, hown, hts, hK, hA, hlk, rfl, hGG, hW0⟩ := C
  subst G'
  exact fun H locs arr hP hD hS hl => va_get (D := G.1) (ci := 1) (v := .ref (b 15)) (C := RX1) (T := TX1) (N := 40) hx hb hts in_X1 hown hK hP 0 rfl rfl 15 (by decide) (hts _ q716) (fun _ h => h) rfl hd (K H locs arr hP hD hS hl)
theorem M_g16 (C : CxOk E RX1 cc nL G rm) (hd : decode cc pc = .ok (.getfield 204, 3)) (K : V E nL k n (wM G b T) (pc + 3) ls (.int (T.1 16) :: st)) : V E nL k n (wM G b T) pc ls (.ref (b 0) :: st) := by
  obtain ⟨p, l, e, R, s, m, args, below, meth, c, Q, A, G'⟩ := E
  obtain ⟨hx, hb, hml, hown, hts, hK, hA, hlk, rfl, hGG, hW0⟩ := C
  subst G'
  exact fun H locs arr hP hD hS hl => va_get (D := G.1) (ci := 1) (v := .int (T.1 16)) (C := RX1) (T := TX1) (N := 40) hx hb hts in_X1 hown hK hP 0 rfl rfl 16 (by decide) (hts _ q717) (fun _ h => h) rfl hd (K H locs arr hP hD hS hl)
theorem M_p16 {v : Int32} (C : CxOk E RX1 cc nL G rm) (hd : decode cc pc = .ok (.putfield 204, 3)) (K : V E nL k n (wM G b (setMi T 16 v)) (pc + 3) ls st) : V E nL k n (wM G b T) pc ls (.int v :: .ref (b 0) :: st) := by
  obtain ⟨p, l, e, R, s, m, args, below, meth, c, Q, A, G'⟩ := E
  obtain ⟨hx, hb, hml, hown, hts, hK, hA, hlk, rfl, hGG, hW0⟩ := C
  subst G'
  exact fun H locs arr hP hD hS hl => va_put (D := G.1) (ci := 1) (v := .int v) (ty := .int) (C := RX1) (T := TX1) (N := 40) hx hb hts in_X1 tyX1 tyX1_ok nmX1 hown hK hP hD hS 0 rfl rfl 16 (by decide) (hts _ q717) (fun _ h => h) rfl (by decide +kernel) rfl rfl (Nat.le_of_ble_eq_true rfl) hd (fun H locs hP hD hS => K H locs arr hP hD hS hl)
theorem M_g17 (C : CxOk E RX1 cc nL G rm) (hd : decode cc pc = .ok (.getfield 81, 3)) (K : V E nL k n (wM G b T) (pc + 3) ls (.int (T.1 17) :: st)) : V E nL k n (wM G b T) pc ls (.ref (b 0) :: st) := by
  obtain ⟨p, l, e, R, s, m, args, below, meth, c, Q, A, G'⟩ := E
  obtain ⟨hx, hb, hml, hown, hts, hK, hA, hlk, rfl, hGG, hW0⟩ := C
  subst G'
  exact fun H locs arr hP hD hS hl => va_get (D := G.1) (ci := 1) (v := .int (T.1 17)) (C := RX1) (T := TX1) (N := 40) hx hb hts in_X1 hown hK hP 0 rfl rfl 17 (by decide) (hts _ q718) (fun _ h => h) rfl hd (K H locs arr hP hD hS hl)
theorem M_p17 {v : Int32} (C : CxOk E RX1 cc nL G rm) (hd : decode cc pc = .ok (.putfield 81, 3)) (K : V E nL k n (wM G b (setMi T 17 v)) (pc + 3) ls st) : V E nL k n (wM G b T) pc ls (.int v :: .ref (b 0) :: st) := by
  obtain ⟨p, l, e, R, s, m, args, below, meth, c, Q, A, G'⟩ := E
  obtain ⟨hx, hb, hml, hown, hts, hK, hA, hlk, rfl, hGG, hW0⟩ := C
  subst G'
  exact fun H locs arr hP hD hS hl => va_put (D := G.1) (ci := 1) (v := .int v) (ty := .int) (C := RX1) (T := TX1) (N := 40) hx hb hts in_X1 tyX1 tyX1_ok nmX1 hown hK hP hD hS 0 rfl rfl 17 (by decide) (hts _ q718) (fun _ h => h) rfl (by decide +kernel) rfl rfl (Nat.le_of_ble_eq_true rfl) hd (fun H locs hP hD hS => K H locs arr hP hD hS hl)
theorem M_g18 (C : CxOk E RX1 cc nL G rm) (hd : decode cc pc = .ok (.getfield 43, 3)) (K : V E nL k n (wM G b T) (pc + 3) ls (.ref (b 18) :: st)) : V E nL k n (wM G b T) pc ls (.ref (b 0) :: st) := by
  obtain ⟨p, l, e, R, s, m, args, below, meth, c, Q, A, G'⟩ := E
  obtain ⟨hx, hb, hml, hown, hts, hK, hA, hlk, rfl, hGG, hW0⟩ := C
  subst G'
  exact fun H locs arr hP hD hS hl => va_get (D := G.1) (ci := 1) (v := .ref (b 18)) (C := RX1) (T := TX1) (N := 40) hx hb hts in_X1 hown hK hP 0 rfl rfl 18 (by decide) (hts _ q719) (fun _ h => h) rfl hd (K H locs arr hP hD hS hl)
theorem M_g19 (C : CxOk E RX1 cc nL G rm) (hd : decode cc pc = .ok (.getfield 85, 3)) (K : V E nL k n (wM G b T) (pc + 3) ls (.int (T.1 19) :: st)) : V E nL k n (wM G b T) pc ls (.ref (b 0) :: st) := by
  obtain ⟨p, l, e, R, s, m, args, below, meth, c, Q, A, G'⟩ := E
  obtain ⟨hx, hb, hml, hown, hts, hK, hA, hlk, rfl, hGG, hW0⟩ := C
  subst G'
  exact fun H locs arr hP hD hS hl => va_get (D := G.1) (ci := 1) (v := .int (T.1 19)) (C := RX1) (T := TX1) (N := 40) hx hb hts in_X1 hown hK hP 0 rfl rfl 19 (by decide) (hts _ q720) (fun _ h => h) rfl hd (K H locs arr hP hD hS hl)
theorem M_p19 {v : Int32} (C : CxOk E RX1 cc nL G rm) (hd : decode cc pc = .ok (.putfield 85, 3)) (hz : narrow .boolean (.int v) = .int v ∧ fits .boolean (.int v) = true) (K : V E nL k n (wM G b (setMi T 19 v)) (pc + 3) ls st) : V E nL k n (wM G b T) pc ls (.int v :: .ref (b 0) :: st) := by
  obtain ⟨p, l, e, R, s, m, args, below, meth, c, Q, A, G'⟩ := E
  obtain ⟨hx, hb, hml, hown, hts, hK, hA, hlk, rfl, hGG, hW0⟩ := C
  subst G'
  exact fun H locs arr hP hD hS hl => va_put (D := G.1) (ci := 1) (v := .int v) (ty := .boolean) (C := RX1) (T := TX1) (N := 40) hx hb hts in_X1 tyX1 tyX1_ok nmX1 hown hK hP hD hS 0 rfl rfl 19 (by decide) (hts _ q720) (fun _ h => h) rfl (by decide +kernel) hz.1 hz.2 (Nat.le_of_ble_eq_true rfl) hd (fun H locs hP hD hS => K H locs arr hP hD hS hl)
theorem M_g20 (C : CxOk E RX1 cc nL G rm) (hd : decode cc pc = .ok (.getfield 89, 3)) (K : V E nL k n (wM G b T) (pc + 3) ls (.int (T.1 20) :: st)) : V E nL k n (wM G b T) pc ls (.ref (b 0) :: st) := by
  obtain ⟨p, l, e, R, s, m, args, below, meth, c, Q, A, G'⟩ := E
  obtain ⟨hx, hb, hml, hown, hts, hK, hA, hlk, rfl, hGG, hW0⟩ := C
  subst G'
  exact fun H locs arr hP hD hS hl => va_get (D := G.1) (ci := 1) (v := .int (T.1 20)) (C := RX1) (T := TX1) (N := 40) hx hb hts in_X1 hown hK hP 0 rfl rfl 20 (by decide) (hts _ q721) (fun _ h => h) rfl hd (K H locs arr hP hD hS hl)
theorem M_p20 {v : Int32} (C : CxOk E RX1 cc nL G rm) (hd : decode cc pc = .ok (.putfield 89, 3)) (K : V E nL k n (wM G b (setMi T 20 v)) (pc + 3) ls st) : V E nL k n (wM G b T) pc ls (.int v :: .ref (b 0) :: st) := by
  obtain ⟨p, l, e, R, s, m, args, below, meth, c, Q, A, G'⟩ := E
  obtain ⟨hx, hb, hml, hown, hts, hK, hA, hlk, rfl, hGG, hW0⟩ := C
  subst G'
  exact fun H locs arr hP hD hS hl => va_put (D := G.1) (ci := 1) (v := .int v) (ty := .int) (C := RX1) (T := TX1) (N := 40) hx hb hts in_X1 tyX1 tyX1_ok nmX1 hown hK hP hD hS 0 rfl rfl 20 (by decide) (hts _ q721) (fun _ h => h) rfl (by decide +kernel) rfl rfl (Nat.le_of_ble_eq_true rfl) hd (fun H locs hP hD hS => K H locs arr hP hD hS hl)
theorem M_g21 (C : CxOk E RX1 cc nL G rm) (hd : decode cc pc = .ok (.getfield 165, 3)) (K : V E nL k n (wM G b T) (pc + 3) ls (.int (T.1 21) :: st)) : V E nL k n (wM G b T) pc ls (.ref (b 0) :: st) := by
  obtain ⟨p, l, e, R, s, m, args, below, meth, c, Q, A, G'⟩ := E
  obtain ⟨hx, hb, hml, hown, hts, hK, hA, hlk, rfl, hGG, hW0⟩ := C
  subst G'
  exact fun H locs arr hP hD hS hl => va_get (D := G.1) (ci := 1) (v := .int (T.1 21)) (C := RX1) (T := TX1) (N := 40) hx hb hts in_X1 hown hK hP 0 rfl rfl 21 (by decide) (hts _ q722) (fun _ h => h) rfl hd (K H locs arr hP hD hS hl)
theorem M_p21 {v : Int32} (C : CxOk E RX1 cc nL G rm) (hd : decode cc pc = .ok (.putfield 165, 3)) (K : V E nL k n (wM G b (setMi T 21 v)) (pc + 3) ls st) : V E nL k n (wM G b T) pc ls (.int v :: .ref (b 0) :: st) := by
  obtain ⟨p, l, e, R, s, m, args, below, meth, c, Q, A, G'⟩ := E
  obtain ⟨hx, hb, hml, hown, hts, hK, hA, hlk, rfl, hGG, hW0⟩ := C
  subst G'
  exact fun H locs arr hP hD hS hl => va_put (D := G.1) (ci := 1) (v := .int v) (ty := .int) (C := RX1) (T := TX1) (N := 40) hx hb hts in_X1 tyX1 tyX1_ok nmX1 hown hK hP hD hS 0 rfl rfl 21 (by decide) (hts _ q722) (fun _ h => h) rfl (by decide +kernel) rfl rfl (Nat.le_of_ble_eq_true rfl) hd (fun H locs hP hD hS => K H locs arr hP hD hS hl)
theorem M_g22 (C : CxOk E RX1 cc nL G rm) (hd : decode cc pc = .ok (.getfield 168, 3)) (K : V E nL k n (wM G b T) (pc + 3) ls (.int (T.1 22) :: st)) : V E nL k n (wM G b T) pc ls (.ref (b 0) :: st) := by
  obtain ⟨p, l, e, R, s, m, args, below, meth, c, Q, A, G'⟩ := E
  obtain ⟨hx, hb, hml, hown, hts, hK, hA, hlk, rfl, hGG, hW0⟩ := C
  subst G'
  exact fun H locs arr hP hD hS hl => va_get (D := G.1) (ci := 1) (v := .int (T.1 22)) (C := RX1) (T := TX1) (N := 40) hx hb hts in_X1 hown hK hP 0 rfl rfl 22 (by decide) (hts _ q723) (fun _ h => h) rfl hd (K H locs arr hP hD hS hl)
theorem M_p22 {v : Int32} (C : CxOk E RX1 cc nL G rm) (hd : decode cc pc = .ok (.putfield 168, 3)) (K : V E nL k n (wM G b (setMi T 22 v)) (pc + 3) ls st) : V E nL k n (wM G b T) pc ls (.int v :: .ref (b 0) :: st) := by
  obtain ⟨p, l, e, R, s, m, args, below, meth, c, Q, A, G'⟩ := E
  obtain ⟨hx, hb, hml, hown, hts, hK, hA, hlk, rfl, hGG, hW0⟩ := C
  subst G'
  exact fun H locs arr hP hD hS hl => va_put (D := G.1) (ci := 1) (v := .int v) (ty := .int) (C := RX1) (T := TX1) (N := 40) hx hb hts in_X1 tyX1 tyX1_ok nmX1 hown hK hP hD hS 0 rfl rfl 22 (by decide) (hts _ q723) (fun _ h => h) rfl (by decide +kernel) rfl rfl (Nat.le_of_ble_eq_true rfl) hd (fun H locs hP hD hS => K H locs arr hP hD hS hl)
theorem M_g23 (C : CxOk E RX1 cc nL G rm) (hd : decode cc pc = .ok (.getfield 47, 3)) (K : V E nL k n (wM G b T) (pc + 3) ls (.ref (b 23) :: st)) : V E nL k n (wM G b T) pc ls (.ref (b 0) :: st) := by
  obtain ⟨p, l, e, R, s, m, args, below, meth, c, Q, A, G'⟩ := E
  obtain ⟨hx, hb, hml, hown, hts, hK, hA, hlk, rfl, hGG, hW0⟩ := C
  subst G'
  exact fun H locs arr hP hD hS hl => va_get (D := G.1) (ci := 1) (v := .ref (b 23)) (C := RX1) (T := TX1) (N := 40) hx hb hts in_X1 hown hK hP 0 rfl rfl 23 (by decide) (hts _ q724) (fun _ h => h) rfl hd (K H locs arr hP hD hS hl)
theorem M_g24 (C : CxOk E RX1 cc nL G rm) (hd : decode cc pc = .ok (.getfield 162, 3)) (K : V E nL k n (wM G b T) (pc + 3) ls (.int (T.1 24) :: st)) : V E nL k n (wM G b T) pc ls (.ref (b 0) :: st) := by
  obtain ⟨p, l, e, R, s, m, args, below, meth, c, Q, A, G'⟩ := E
  obtain ⟨hx, hb, hml, hown, hts, hK, hA, hlk, rfl, hGG, hW0⟩ := C
  subst G'
  exact fun H locs arr hP hD hS hl => va_get (D := G.1) (ci := 1) (v := .int (T.1 24)) (C := RX1) (T := TX1) (N := 40) hx hb hts in_X1 hown hK hP 0 rfl rfl 24 (by decide) (hts _ q725) (fun _ h => h) rfl hd (K H locs arr hP hD hS hl)
theorem M_p24 {v : Int32} (C : CxOk E RX1 cc nL G rm) (hd : decode cc pc = .ok (.putfield 162, 3)) (K : V E nL k n (wM G b (setMi T 24 v)) (pc + 3) ls st) : V E nL k n (wM G b T) pc ls (.int v :: .ref (b 0) :: st) := by
  obtain ⟨p, l, e, R, s, m, args, below, meth, c, Q, A, G'⟩ := E
  obtain ⟨hx, hb, hml, hown, hts, hK, hA, hlk, rfl, hGG, hW0⟩ := C
  subst G'
  exact fun H locs arr hP hD hS hl => va_put (D := G.1) (ci := 1) (v := .int v) (ty := .int) (C := RX1) (T := TX1) (N := 40) hx hb hts in_X1 tyX1 tyX1_ok nmX1 hown hK hP hD hS 0 rfl rfl 24 (by decide) (hts _ q725) (fun _ h => h) rfl (by decide +kernel) rfl rfl (Nat.le_of_ble_eq_true rfl) hd (fun H locs hP hD hS => K H locs arr hP hD hS hl)
theorem M_g25 (C : CxOk E RX1 cc nL G rm) (hd : decode cc pc = .ok (.getfield 50, 3)) (K : V E nL k n (wM G b T) (pc + 3) ls (.ref (b 25) :: st)) : V E nL k n (wM G b T) pc ls (.ref (b 0) :: st) := by
  obtain ⟨p, l, e, R, s, m, args, below, meth, c, Q, A, G'⟩ := E
  obtain ⟨hx, hb, hml, hown, hts, hK, hA, hlk, rfl, hGG, hW0⟩ := C
  subst G'
  exact fun H locs arr hP hD hS hl => va_get (D := G.1) (ci := 1) (v := .ref (b 25)) (C := RX1) (T := TX1) (N := 40) hx hb hts in_X1 hown hK hP 0 rfl rfl 25 (by decide) (hts _ q726) (fun _ h => h) rfl hd (K H locs arr hP hD hS hl)
theorem M_g26 (C : CxOk E RX1 cc nL G rm) (hd : decode cc pc = .ok (.getfield 236, 3)) (K : V E nL k n (wM G b T) (pc + 3) ls (.long (T.2.1 26) :: st)) : V E nL k n (wM G b T) pc ls (.ref (b 0) :: st) := by
  obtain ⟨p, l, e, R, s, m, args, below, meth, c, Q, A, G'⟩ := E
  obtain ⟨hx, hb, hml, hown, hts, hK, hA, hlk, rfl, hGG, hW0⟩ := C
  subst G'
  exact fun H locs arr hP hD hS hl => va_get (D := G.1) (ci := 1) (v := .long (T.2.1 26)) (C := RX1) (T := TX1) (N := 40) hx hb hts in_X1 hown hK hP 0 rfl rfl 26 (by decide) (hts _ q727) (fun _ h => h) rfl hd (K H locs arr hP hD hS hl)
theorem M_p26 {v : Int64} (C : CxOk E RX1 cc nL G rm) (hd : decode cc pc = .ok (.putfield 236, 3)) (K : V E nL k n (wM G b (setMl T 26 v)) (pc + 3) ls st) : V E nL k n (wM G b T) pc ls (.long v :: .ref (b 0) :: st) := by
  obtain ⟨p, l, e, R, s, m, args, below, meth, c, Q, A, G'⟩ := E
  obtain ⟨hx, hb, hml, hown, hts, hK, hA, hlk, rfl, hGG, hW0⟩ := C
  subst G'
  exact fun H locs arr hP hD hS hl => va_put (D := G.1) (ci := 1) (v := .long v) (ty := .long) (C := RX1) (T := TX1) (N := 40) hx hb hts in_X1 tyX1 tyX1_ok nmX1 hown hK hP hD hS 0 rfl rfl 26 (by decide) (hts _ q727) (fun _ h => h) rfl (by decide +kernel) rfl rfl (Nat.le_of_ble_eq_true rfl) hd (fun H locs hP hD hS => K H locs arr hP hD hS hl)
theorem M_g27 (C : CxOk E RX1 cc nL G rm) (hd : decode cc pc = .ok (.getfield 53, 3)) (K : V E nL k n (wM G b T) (pc + 3) ls (.ref (b 27) :: st)) : V E nL k n (wM G b T) pc ls (.ref (b 0) :: st) := by
  obtain ⟨p, l, e, R, s, m, args, below, meth, c, Q, A, G'⟩ := E
  obtain ⟨hx, hb, hml, hown, hts, hK, hA, hlk, rfl, hGG, hW0⟩ := C
  subst G'
  exact fun H locs arr hP hD hS hl => va_get (D := G.1) (ci := 1) (v := .ref (b 27)) (C := RX1) (T := TX1) (N := 40) hx hb hts in_X1 hown hK hP 0 rfl rfl 27 (by decide) (hts _ q728) (fun _ h => h) rfl hd (K H locs arr hP hD hS hl)
theorem M_g28 (C : CxOk E RX1 cc nL G rm) (hd : decode cc pc = .ok (.getfield 267, 3)) (K : V E nL k n (wM G b T) (pc + 3) ls (.int (T.1 28) :: st)) : V E nL k n (wM G b T) pc ls (.ref (b 0) :: st) := by
  obtain ⟨p, l, e, R, s, m, args, below, meth, c, Q, A, G'⟩ := E
  obtain ⟨hx, hb, hml, hown, hts, hK, hA, hlk, rfl, hGG, hW0⟩ := C
  subst G'
  exact fun H locs arr hP hD hS hl => va_get (D := G.1) (ci := 1) (v := .int (T.1 28)) (C := RX1) (T := TX1) (N := 40) hx hb hts in_X1 hown hK hP 0 rfl rfl 28 (by decide) (hts _ q729) (fun _ h => h) rfl hd (K H locs arr hP hD hS hl)
theorem M_p28 {v : Int32} (C : CxOk E RX1 cc nL G rm) (hd : decode cc pc = .ok (.putfield 267, 3)) (hz : narrow .boolean (.int v) = .int v ∧ fits .boolean (.int v) = true) (K : V E nL k n (wM G b (setMi T 28 v)) (pc + 3) ls st) : V E nL k n (wM G b T) pc ls (.int v :: .ref (b 0) :: st) := by
  obtain ⟨p, l, e, R, s, m, args, below, meth, c, Q, A, G'⟩ := E
  obtain ⟨hx, hb, hml, hown, hts, hK, hA, hlk, rfl, hGG, hW0⟩ := C
  subst G'
  exact fun H locs arr hP hD hS hl => va_put (D := G.1) (ci := 1) (v := .int v) (ty := .boolean) (C := RX1) (T := TX1) (N := 40) hx hb hts in_X1 tyX1 tyX1_ok nmX1 hown hK hP hD hS 0 rfl rfl 28 (by decide) (hts _ q729) (fun _ h => h) rfl (by decide +kernel) hz.1 hz.2 (Nat.le_of_ble_eq_true rfl) hd (fun H locs hP hD hS => K H locs arr hP hD hS hl)
theorem M_g29 (C : CxOk E RX1 cc nL G rm) (hd : decode cc pc = .ok (.getfield 270, 3)) (K : V E nL k n (wM G b T) (pc + 3) ls (.int (T.1 29) :: st)) : V E nL k n (wM G b T) pc ls (.ref (b 0) :: st) := by
  obtain ⟨p, l, e, R, s, m, args, below, meth, c, Q, A, G'⟩ := E
  obtain ⟨hx, hb, hml, hown, hts, hK, hA, hlk, rfl, hGG, hW0⟩ := C
  subst G'
  exact fun H locs arr hP hD hS hl => va_get (D := G.1) (ci := 1) (v := .int (T.1 29)) (C := RX1) (T := TX1) (N := 40) hx hb hts in_X1 hown hK hP 0 rfl rfl 29 (by decide) (hts _ q730) (fun _ h => h) rfl hd (K H locs arr hP hD hS hl)
theorem M_p29 {v : Int32} (C : CxOk E RX1 cc nL G rm) (hd : decode cc pc = .ok (.putfield 270, 3)) (K : V E nL k n (wM G b (setMi T 29 v)) (pc + 3) ls st) : V E nL k n (wM G b T) pc ls (.int v :: .ref (b 0) :: st) := by
  obtain ⟨p, l, e, R, s, m, args, below, meth, c, Q, A, G'⟩ := E
  obtain ⟨hx, hb, hml, hown, hts, hK, hA, hlk, rfl, hGG, hW0⟩ := C
  subst G'
  exact fun H locs arr hP hD hS hl => va_put (D := G.1) (ci := 1) (v := .int v) (ty := .int) (C := RX1) (T := TX1) (N := 40) hx hb hts in_X1 tyX1 tyX1_ok nmX1 hown hK hP hD hS 0 rfl rfl 29 (by decide) (hts _ q730) (fun _ h => h) rfl (by decide +kernel) rfl rfl (Nat.le_of_ble_eq_true rfl) hd (fun H locs hP hD hS => K H locs arr hP hD hS hl)
theorem M_g30 (C : CxOk E RX1 cc nL G rm) (hd : decode cc pc = .ok (.getfield 273, 3)) (K : V E nL k n (wM G b T) (pc + 3) ls (.int (T.1 30) :: st)) : V E nL k n (wM G b T) pc ls (.ref (b 0) :: st) := by
  obtain ⟨p, l, e, R, s, m, args, below, meth, c, Q, A, G'⟩ := E
  obtain ⟨hx, hb, hml, hown, hts, hK, hA, hlk, rfl, hGG, hW0⟩ := C
  subst G'
  exact fun H locs arr hP hD hS hl => va_get (D := G.1) (ci := 1) (v := .int (T.1 30)) (C := RX1) (T := TX1) (N := 40) hx hb hts in_X1 hown hK hP 0 rfl rfl 30 (by decide) (hts _ q731) (fun _ h => h) rfl hd (K H locs arr hP hD hS hl)
theorem M_p30 {v : Int32} (C : CxOk E RX1 cc nL G rm) (hd : decode cc pc = .ok (.putfield 273, 3)) (K : V E nL k n (wM G b (setMi T 30 v)) (pc + 3) ls st) : V E nL k n (wM G b T) pc ls (.int v :: .ref (b 0) :: st) := by
  obtain ⟨p, l, e, R, s, m, args, below, meth, c, Q, A, G'⟩ := E
  obtain ⟨hx, hb, hml, hown, hts, hK, hA, hlk, rfl, hGG, hW0⟩ := C
  subst G'
  exact fun H locs arr hP hD hS hl => va_put (D := G.1) (ci := 1) (v := .int v) (ty := .int) (C := RX1) (T := TX1) (N := 40) hx hb hts in_X1 tyX1 tyX1_ok nmX1 hown hK hP hD hS 0 rfl rfl 30 (by decide) (hts _ q731) (fun _ h => h) rfl (by decide +kernel) rfl rfl (Nat.le_of_ble_eq_true rfl) hd (fun H locs hP hD hS => K H locs arr hP hD hS hl)
theorem M_g31 (C : CxOk E RX1 cc nL G rm) (hd : decode cc pc = .ok (.getfield 276, 3)) (K : V E nL k n (wM G b T) (pc + 3) ls (.int (T.1 31) :: st)) : V E nL k n (wM G b T) pc ls (.ref (b 0) :: st) := by
  obtain ⟨p, l, e, R, s, m, args, below, meth, c, Q, A, G'⟩ := E
  obtain ⟨hx, hb, hml, hown, hts, hK, hA, hlk, rfl, hGG, hW0⟩ := C
  subst G'
  exact fun H locs arr hP hD hS hl => va_get (D := G.1) (ci := 1) (v := .int (T.1 31)) (C := RX1) (T := TX1) (N := 40) hx hb hts in_X1 hown hK hP 0 rfl rfl 31 (by decide) (hts _ q732) (fun _ h => h) rfl hd (K H locs arr hP hD hS hl)
theorem M_p31 {v : Int32} (C : CxOk E RX1 cc nL G rm) (hd : decode cc pc = .ok (.putfield 276, 3)) (K : V E nL k n (wM G b (setMi T 31 v)) (pc + 3) ls st) : V E nL k n (wM G b T) pc ls (.int v :: .ref (b 0) :: st) := by
  obtain ⟨p, l, e, R, s, m, args, below, meth, c, Q, A, G'⟩ := E
  obtain ⟨hx, hb, hml, hown, hts, hK, hA, hlk, rfl, hGG, hW0⟩ := C
  subst G'
  exact fun H locs arr hP hD hS hl => va_put (D := G.1) (ci := 1) (v := .int v) (ty := .int) (C := RX1) (T := TX1) (N := 40) hx hb hts in_X1 tyX1 tyX1_ok nmX1 hown hK hP hD hS 0 rfl rfl 31 (by decide) (hts _ q732) (fun _ h => h) rfl (by decide +kernel) rfl rfl (Nat.le_of_ble_eq_true rfl) hd (fun H locs hP hD hS => K H locs arr hP hD hS hl)
theorem M_g32 (C : CxOk E RX1 cc nL G rm) (hd : decode cc pc = .ok (.getfield 56, 3)) (K : V E nL k n (wM G b T) (pc + 3) ls (.ref (b 32) :: st)) : V E nL k n (wM G b T) pc ls (.ref (b 0) :: st) := by
  obtain ⟨p, l, e, R, s, m, args, below, meth, c, Q, A, G'⟩ := E
  obtain ⟨hx, hb, hml, hown, hts, hK, hA, hlk, rfl, hGG, hW0⟩ := C
  subst G'
  exact fun H locs arr hP hD hS hl => va_get (D := G.1) (ci := 1) (v := .ref (b 32)) (C := RX1) (T := TX1) (N := 40) hx hb hts in_X1 hown hK hP 0 rfl rfl 32 (by decide) (hts _ q733) (fun _ h => h) rfl hd (K H locs arr hP hD hS hl)
theorem M_g33 (C : CxOk E RX1 cc nL G rm) (hd : decode cc pc = .ok (.getfield 59, 3)) (K : V E nL k n (wM G b T) (pc + 3) ls (.ref (b 33) :: st)) : V E nL k n (wM G b T) pc ls (.ref (b 0) :: st) := by
  obtain ⟨p, l, e, R, s, m, args, below, meth, c, Q, A, G'⟩ := E
  obtain ⟨hx, hb, hml, hown, hts, hK, hA, hlk, rfl, hGG, hW0⟩ := C
  subst G'
  exact fun H locs arr hP hD hS hl => va_get (D := G.1) (ci := 1) (v := .ref (b 33)) (C := RX1) (T := TX1) (N := 40) hx hb hts in_X1 hown hK hP 0 rfl rfl 33 (by decide) (hts _ q734) (fun _ h => h) rfl hd (K H locs arr hP hD hS hl)
theorem M_g34 (C : CxOk E RX1 cc nL G rm) (hd : decode cc pc = .ok (.getfield 62, 3)) (K : V E nL k n (wM G b T) (pc + 3) ls (.ref (b 34) :: st)) : V E nL k n (wM G b T) pc ls (.ref (b 0) :: st) := by
  obtain ⟨p, l, e, R, s, m, args, below, meth, c, Q, A, G'⟩ := E
  obtain ⟨hx, hb, hml, hown, hts, hK, hA, hlk, rfl, hGG, hW0⟩ := C
  subst G'
  exact fun H locs arr hP hD hS hl => va_get (D := G.1) (ci := 1) (v := .ref (b 34)) (C := RX1) (T := TX1) (N := 40) hx hb hts in_X1 hown hK hP 0 rfl rfl 34 (by decide) (hts _ q735) (fun _ h => h) rfl hd (K H locs arr hP hD hS hl)
theorem M_g35 (C : CxOk E RX1 cc nL G rm) (hd : decode cc pc = .ok (.getfield 65, 3)) (K : V E nL k n (wM G b T) (pc + 3) ls (.ref (b 35) :: st)) : V E nL k n (wM G b T) pc ls (.ref (b 0) :: st) := by
  obtain ⟨p, l, e, R, s, m, args, below, meth, c, Q, A, G'⟩ := E
  obtain ⟨hx, hb, hml, hown, hts, hK, hA, hlk, rfl, hGG, hW0⟩ := C
  subst G'
  exact fun H locs arr hP hD hS hl => va_get (D := G.1) (ci := 1) (v := .ref (b 35)) (C := RX1) (T := TX1) (N := 40) hx hb hts in_X1 hown hK hP 0 rfl rfl 35 (by decide) (hts _ q736) (fun _ h => h) rfl hd (K H locs arr hP hD hS hl)
theorem M_g36 (C : CxOk E RX1 cc nL G rm) (hd : decode cc pc = .ok (.getfield 68, 3)) (K : V E nL k n (wM G b T) (pc + 3) ls (.ref (b 36) :: st)) : V E nL k n (wM G b T) pc ls (.ref (b 0) :: st) := by
  obtain ⟨p, l, e, R, s, m, args, below, meth, c, Q, A, G'⟩ := E
  obtain ⟨hx, hb, hml, hown, hts, hK, hA, hlk, rfl, hGG, hW0⟩ := C
  subst G'
  exact fun H locs arr hP hD hS hl => va_get (D := G.1) (ci := 1) (v := .ref (b 36)) (C := RX1) (T := TX1) (N := 40) hx hb hts in_X1 hown hK hP 0 rfl rfl 36 (by decide) (hts _ q737) (fun _ h => h) rfl hd (K H locs arr hP hD hS hl)
theorem M_g37 (C : CxOk E RX1 cc nL G rm) (hd : decode cc pc = .ok (.getfield 71, 3)) (K : V E nL k n (wM G b T) (pc + 3) ls (.ref (b 37) :: st)) : V E nL k n (wM G b T) pc ls (.ref (b 0) :: st) := by
  obtain ⟨p, l, e, R, s, m, args, below, meth, c, Q, A, G'⟩ := E
  obtain ⟨hx, hb, hml, hown, hts, hK, hA, hlk, rfl, hGG, hW0⟩ := C
  subst G'
  exact fun H locs arr hP hD hS hl => va_get (D := G.1) (ci := 1) (v := .ref (b 37)) (C := RX1) (T := TX1) (N := 40) hx hb hts in_X1 hown hK hP 0 rfl rfl 37 (by decide) (hts _ q738) (fun _ h => h) rfl hd (K H locs arr hP hD hS hl)
theorem M_g38 (C : CxOk E RX1 cc nL G rm) (hd : decode cc pc = .ok (.getfield 74, 3)) (K : V E nL k n (wM G b T) (pc + 3) ls (.ref (b 38) :: st)) : V E nL k n (wM G b T) pc ls (.ref (b 0) :: st) := by
  obtain ⟨p, l, e, R, s, m, args, below, meth, c, Q, A, G'⟩ := E
  obtain ⟨hx, hb, hml, hown, hts, hK, hA, hlk, rfl, hGG, hW0⟩ := C
  subst G'
  exact fun H locs arr hP hD hS hl => va_get (D := G.1) (ci := 1) (v := .ref (b 38)) (C := RX1) (T := TX1) (N := 40) hx hb hts in_X1 hown hK hP 0 rfl rfl 38 (by decide) (hts _ q739) (fun _ h => h) rfl hd (K H locs arr hP hD hS hl)
theorem M_g39 (C : CxOk E RX1 cc nL G rm) (hd : decode cc pc = .ok (.getfield 287, 3)) (K : V E nL k n (wM G b T) (pc + 3) ls (.long (T.2.1 39) :: st)) : V E nL k n (wM G b T) pc ls (.ref (b 0) :: st) := by
  obtain ⟨p, l, e, R, s, m, args, below, meth, c, Q, A, G'⟩ := E
  obtain ⟨hx, hb, hml, hown, hts, hK, hA, hlk, rfl, hGG, hW0⟩ := C
  subst G'
  exact fun H locs arr hP hD hS hl => va_get (D := G.1) (ci := 1) (v := .long (T.2.1 39)) (C := RX1) (T := TX1) (N := 40) hx hb hts in_X1 hown hK hP 0 rfl rfl 39 (by decide) (hts _ q740) (fun _ h => h) rfl hd (K H locs arr hP hD hS hl)
theorem M_p39 {v : Int64} (C : CxOk E RX1 cc nL G rm) (hd : decode cc pc = .ok (.putfield 287, 3)) (K : V E nL k n (wM G b (setMl T 39 v)) (pc + 3) ls st) : V E nL k n (wM G b T) pc ls (.long v :: .ref (b 0) :: st) := by
  obtain ⟨p, l, e, R, s, m, args, below, meth, c, Q, A, G'⟩ := E
  obtain ⟨hx, hb, hml, hown, hts, hK, hA, hlk, rfl, hGG, hW0⟩ := C
  subst G'
  exact fun H locs arr hP hD hS hl => va_put (D := G.1) (ci := 1) (v := .long v) (ty := .long) (C := RX1) (T := TX1) (N := 40) hx hb hts in_X1 tyX1 tyX1_ok nmX1 hown hK hP hD hS 0 rfl rfl 39 (by decide) (hts _ q740) (fun _ h => h) rfl (by decide +kernel) rfl rfl (Nat.le_of_ble_eq_true rfl) hd (fun H locs hP hD hS => K H locs arr hP hD hS hl)
theorem M_l3 {i : Int32} (C : CxOk E RX1 cc nL G rm) (hd : decode cc pc = .ok (.iaload, 1)) (hin : vp_in i 5) (K : V E nL k n (wM G b T) (pc + 1) ls (.int (T.2.2 3 i.toNatClampNeg) :: st)) : V E nL k n (wM G b T) pc ls (.int i :: .ref (b 3) :: st) := by
  obtain ⟨p, l, e, R, s, m, args, below, meth, c, Q, A, G'⟩ := E
  obtain ⟨hx, hb, hml, hown, hts, hK, hA, hlk, rfl, hGG, hW0⟩ := C
  subst G'
  exact fun H locs arr hP hD hS hl => va_iald hx hb hK hP 1 0 rfl rfl hin hd (K H locs arr hP hD hS hl)
theorem M_s3 {i x : Int32} (C : CxOk E RX1 cc nL G rm) (hd : decode cc pc = .ok (.iastore, 1)) (hin : vp_in i 5) (K : V E nL k n (wM G b (setMa T 3 (upd (T.2.2 3) i.toNatClampNeg x))) (pc + 1) ls st) : V E nL k n (wM G b T) pc ls (.int x :: .int i :: .ref (b 3) :: st) := by
  obtain ⟨p, l, e, R, s, m, args, below, meth, c, Q, A, G'⟩ := E
  obtain ⟨hx, hb, hml, hown, hts, hK, hA, hlk, rfl, hGG, hW0⟩ := C
  subst G'
  exact fun H locs arr hP hD hS hl => va_iast hx hb hK hP hD hS 1 0 rfl rfl hin hd (fun H locs hP hD hS => K H locs arr hP hD hS hl)
theorem M_n3 (C : CxOk E RX1 cc nL G rm) (hd : decode cc pc = .ok (.arraylength, 1)) (K : V E nL k n (wM G b T) (pc + 1) ls (.int 5 :: st)) : V E nL k n (wM G b T) pc ls (.ref (b 3) :: st) := by
  obtain ⟨p, l, e, R, s, m, args, below, meth, c, Q, A, G'⟩ := E
  obtain ⟨hx, hb, hml, hown, hts, hK, hA, hlk, rfl, hGG, hW0⟩ := C
  subst G'
  exact fun H locs arr hP hD hS hl => va_alen (v := 5) hx hb hK hP 1 0 rfl rfl rfl hd (K H locs arr hP hD hS hl)
theorem M_l4 {i : Int32} (C : CxOk E RX1 cc nL G rm) (hd : decode cc pc = .ok (.iaload, 1)) (hin : vp_in i 5) (K : V E nL k n (wM G b T) (pc + 1) ls (.int (T.2.2 4 i.toNatClampNeg) :: st)) : V E nL k n (wM G b T) pc ls (.int i :: .ref (b 4) :: st) := by
  obtain ⟨p, l, e, R, s, m, args, below, meth, c, Q, A, G'⟩ := E
  obtain ⟨hx, hb, hml, hown, hts, hK, hA, hlk, rfl, hGG, hW0⟩ := C
  subst G'
  exact fun H locs arr hP hD hS hl => va_iald hx hb hK hP 2 0 rfl rfl hin hd (K H locs arr hP hD hS hl)
theorem M_s4 {i x : Int32} (C : CxOk E RX1 cc nL G rm) (hd : decode cc pc = .ok (.iastore, 1)) (hin : vp_in i 5) (K : V E nL k n (wM G b (setMa T 4 (upd (T.2.2 4) i.toNatClampNeg x))) (pc + 1) ls st) : V E nL k n (wM G b T) pc ls (.int x :: .int i :: .ref (b 4) :: st) := by
  obtain ⟨p, l, e, R, s, m, args, below, meth, c, Q, A, G'⟩ := E
  obtain ⟨hx, hb, hml, hown, hts, hK, hA, hlk, rfl, hGG, hW0⟩ := C
  subst G'
  exact fun H locs arr hP hD hS hl => va_iast hx hb hK hP hD hS 2 0 rfl rfl hin hd (fun H locs hP hD hS => K H locs arr hP hD hS hl)
theorem M_n4 (C : CxOk E RX1 cc nL G rm) (hd : decode cc pc = .ok (.arraylength, 1)) (K : V E nL k n (wM G b T) (pc + 1) ls (.int 5 :: st)) : V E nL k n (wM G b T) pc ls (.ref (b 4) :: st) := by
  obtain ⟨p, l, e, R, s, m, args, below, meth, c, Q, A, G'⟩ := E
  obtain ⟨hx, hb, hml, hown, hts, hK, hA, hlk, rfl, hGG, hW0⟩ := C
  subst G'
  exact fun H locs arr hP hD hS hl => va_alen (v := 5) hx hb hK hP 2 0 rfl rfl rfl hd (K H locs arr hP hD hS hl)
theorem M_l5 {i : Int32} (C : CxOk E RX1 cc nL G rm) (hd : decode cc pc = .ok (.iaload, 1)) (hin : vp_in i 3) (K : V E nL k n (wM G b T) (pc + 1) ls (.int (T.2.2 5 i.toNatClampNeg) :: st)) : V E nL k n (wM G b T) pc ls (.int i :: .ref (b 5) :: st) := by
  obtain ⟨p, l, e, R, s, m, args, below, meth, c, Q, A, G'⟩ := E
  obtain ⟨hx, hb, hml, hown, hts, hK, hA, hlk, rfl, hGG, hW0⟩ := C
  subst G'
  exact fun H locs arr hP hD hS hl => va_iald hx hb hK hP 3 0 rfl rfl hin hd (K H locs arr hP hD hS hl)
theorem M_s5 {i x : Int32} (C : CxOk E RX1 cc nL G rm) (hd : decode cc pc = .ok (.iastore, 1)) (hin : vp_in i 3) (K : V E nL k n (wM G b (setMa T 5 (upd (T.2.2 5) i.toNatClampNeg x))) (pc + 1) ls st) : V E nL k n (wM G b T) pc ls (.int x :: .int i :: .ref (b 5) :: st) := by
  obtain ⟨p, l, e, R, s, m, args, below, meth, c, Q, A, G'⟩ := E
  obtain ⟨hx, hb, hml, hown, hts, hK, hA, hlk, rfl, hGG, hW0⟩ := C
  subst G'
  exact fun H locs arr hP hD hS hl => va_iast hx hb hK hP hD hS 3 0 rfl rfl hin hd (fun H locs hP hD hS => K H locs arr hP hD hS hl)
theorem M_n5 (C : CxOk E RX1 cc nL G rm) (hd : decode cc pc = .ok (.arraylength, 1)) (K : V E nL k n (wM G b T) (pc + 1) ls (.int 3 :: st)) : V E nL k n (wM G b T) pc ls (.ref (b 5) :: st) := by
  obtain ⟨p, l, e, R, s, m, args, below, meth, c, Q, A, G'⟩ := E
  obtain ⟨hx, hb, hml, hown, hts, hK, hA, hlk, rfl, hGG, hW0⟩ := C
  subst G'
  exact fun H locs arr hP hD hS hl => va_alen (v := 3) hx hb hK hP 3 0 rfl rfl rfl hd (K H locs arr hP hD hS hl)
theorem M_l7 {i : Int32} (C : CxOk E RX1 cc nL G rm) (hd : decode cc pc = .ok (.iaload, 1)) (hin : vp_in i 3) (K : V E nL k n (wM G b T) (pc + 1) ls (.int (T.2.2 7 i.toNatClampNeg) :: st)) : V E nL k n (wM G b T) pc ls (.int i :: .ref (b 7) :: st) := by
  obtain ⟨p, l, e, R, s, m, args, below, meth, c, Q, A, G'⟩ := E
  obtain ⟨hx, hb, hml, hown, hts, hK, hA, hlk, rfl, hGG, hW0⟩ := C
  subst G'
  exact fun H locs arr hP hD hS hl => va_iald hx hb hK hP 4 0 rfl rfl hin hd (K H locs arr hP hD hS hl)
theorem M_s7 {i x : Int32} (C : CxOk E RX1 cc nL G rm) (hd : decode cc pc = .ok (.iastore, 1)) (hin : vp_in i 3) (K : V E nL k n (wM G b (setMa T 7 (upd (T.2.2 7) i.toNatClampNeg x))) (pc + 1) ls st) : V E nL k n (wM G b T) pc ls (.int x :: .int i :: .ref (b 7) :: st) := by
  obtain ⟨p, l, e, R, s, m, args, below, meth, c, Q, A, G'⟩ := E
  obtain ⟨hx, hb, hml, hown, hts, hK, hA, hlk, rfl, hGG, hW0⟩ := C
  subst G'
  exact fun H locs arr hP hD hS hl => va_iast hx hb hK hP hD hS 4 0 rfl rfl hin hd (fun H locs hP hD hS => K H locs arr hP hD hS hl)
theorem M_n7 (C : CxOk E RX1 cc nL G rm) (hd : decode cc pc = .ok (.arraylength, 1)) (K : V E nL k n (wM G b T) (pc + 1) ls (.int 3 :: st)) : V E nL k n (wM G b T) pc ls (.ref (b 7) :: st) := by
  obtain ⟨p, l, e, R, s, m, args, below, meth, c, Q, A, G'⟩ := E
  obtain ⟨hx, hb, hml, hown, hts, hK, hA, hlk, rfl, hGG, hW0⟩ := C
  subst G'
  exact fun H locs arr hP hD hS hl => va_alen (v := 3) hx hb hK hP 4 0 rfl rfl rfl hd (K H locs arr hP hD hS hl)
theorem M_l8 {i : Int32} (C : CxOk E RX1 cc nL G rm) (hd : decode cc pc = .ok (.iaload, 1)) (hin : vp_in i 3) (K : V E nL k n (wM G b T) (pc + 1) ls (.int (T.2.2 8 i.toNatClampNeg) :: st)) : V E nL k n (wM G b T) pc ls (.int i :: .ref (b 8) :: st) := by
  obtain ⟨p, l, e, R, s, m, args, below, meth, c, Q, A, G'⟩ := E
  obtain ⟨hx, hb, hml, hown, hts, hK, hA, hlk, rfl, hGG, hW0⟩ := C
  subst G'
  exact fun H locs arr hP hD hS hl => va_iald hx hb hK hP 5 0 rfl rfl hin hd (K H locs arr hP hD hS hl)
theorem M_s8 {i x : Int32} (C : CxOk E RX1 cc nL G rm) (hd : decode cc pc = .ok (.iastore, 1)) (hin : vp_in i 3) (K : V E nL k n (wM G b (setMa T 8 (upd (T.2.2 8) i.toNatClampNeg x))) (pc + 1) ls st) : V E nL k n (wM G b T) pc ls (.int x :: .int i :: .ref (b 8) :: st) := by
  obtain ⟨p, l, e, R, s, m, args, below, meth, c, Q, A, G'⟩ := E
  obtain ⟨hx, hb, hml, hown, hts, hK, hA, hlk, rfl, hGG, hW0⟩ := C
  subst G'
  exact fun H locs arr hP hD hS hl => va_iast hx hb hK hP hD hS 5 0 rfl rfl hin hd (fun H locs hP hD hS => K H locs arr hP hD hS hl)
theorem M_n8 (C : CxOk E RX1 cc nL G rm) (hd : decode cc pc = .ok (.arraylength, 1)) (K : V E nL k n (wM G b T) (pc + 1) ls (.int 3 :: st)) : V E nL k n (wM G b T) pc ls (.ref (b 8) :: st) := by
  obtain ⟨p, l, e, R, s, m, args, below, meth, c, Q, A, G'⟩ := E
  obtain ⟨hx, hb, hml, hown, hts, hK, hA, hlk, rfl, hGG, hW0⟩ := C
  subst G'
  exact fun H locs arr hP hD hS hl => va_alen (v := 3) hx hb hK hP 5 0 rfl rfl rfl hd (K H locs arr hP hD hS hl)
theorem M_l9 {i : Int32} (C : CxOk E RX1 cc nL G rm) (hd : decode cc pc = .ok (.iaload, 1)) (hin : vp_in i 3) (K : V E nL k n (wM G b T) (pc + 1) ls (.int (T.2.2 9 i.toNatClampNeg) :: st)) : V E nL k n (wM G b T) pc ls (.int i :: .ref (b 9) :: st) := by
  obtain ⟨p, l, e, R, s, m, args, below, meth, c, Q, A, G'⟩ := E
  obtain ⟨hx, hb, hml, hown, hts, hK, hA, hlk, rfl, hGG, hW0⟩ := C
  subst G'
  exact fun H locs arr hP hD hS hl => va_iald hx hb hK hP 6 0 rfl rfl hin hd (K H locs arr hP hD hS hl)
theorem M_s9 {i x : Int32} (C : CxOk E RX1 cc nL G rm) (hd : decode cc pc = .ok (.iastore, 1)) (hin : vp_in i 3) (K : V E nL k n (wM G b (setMa T 9 (upd (T.2.2 9) i.toNatClampNeg x))) (pc + 1) ls st) : V E nL k n (wM G b T) pc ls (.int x :: .int i :: .ref (b 9) :: st) := by
  obtain ⟨p, l, e, R, s, m, args, below, meth, c, Q, A, G'⟩ := E
  obtain ⟨hx, hb, hml, hown, hts, hK, hA, hlk, rfl, hGG, hW0⟩ := C
  subst G'
  exact fun H locs arr hP hD hS hl => va_iast hx hb hK hP hD hS 6 0 rfl rfl hin hd (fun H locs hP hD hS => K H locs arr hP hD hS hl)
theorem M_n9 (C : CxOk E RX1 cc nL G rm) (hd : decode cc pc = .ok (.arraylength, 1)) (K : V E nL k n (wM G b T) (pc + 1) ls (.int 3 :: st)) : V E nL k n (wM G b T) pc ls (.ref (b 9) :: st) := by
  obtain ⟨p, l, e, R, s, m, args, below, meth, c, Q, A, G'⟩ := E
  obtain ⟨hx, hb, hml, hown, hts, hK, hA, hlk, rfl, hGG, hW0⟩ := C
  subst G'
  exact fun H locs arr hP hD hS hl => va_alen (v := 3) hx hb hK hP 6 0 rfl rfl rfl hd (K H locs arr hP hD hS hl)
theorem M_l10 {i : Int32} (C : CxOk E RX1 cc nL G rm) (hd : decode cc pc = .ok (.iaload, 1)) (hin : vp_in i 3) (K : V E nL k n (wM G b T) (pc + 1) ls (.int (T.2.2 10 i.toNatClampNeg) :: st)) : V E nL k n (wM G b T) pc ls (.int i :: .ref (b 10) :: st) := by
  obtain ⟨p, l, e, R, s, m, args, below, meth, c, Q, A, G'⟩ := E
  obtain ⟨hx, hb, hml, hown, hts, hK, hA, hlk, rfl, hGG, hW0⟩ := C
  subst G'
  exact fun H locs arr hP hD hS hl => va_iald hx hb hK hP 7 0 rfl rfl hin hd (K H locs arr hP hD hS hl)
theorem M_s10 {i x : Int32} (C : CxOk E RX1 cc nL G rm) (hd : decode cc pc = .ok (.iastore, 1)) (hin : vp_in i 3) (K : V E nL k n (wM G b (setMa T 10 (upd (T.2.2 10) i.toNatClampNeg x))) (pc + 1) ls st) : V E nL k n (wM G b T) pc ls (.int x :: .int i :: .ref (b 10) :: st) := by
  obtain ⟨p, l, e, R, s, m, args, below, meth, c, Q, A, G'⟩ := E
  obtain ⟨hx, hb, hml, hown, hts, hK, hA, hlk, rfl, hGG, hW0⟩ := C
  subst G'
  exact fun H locs arr hP hD hS hl => va_iast hx hb hK hP hD hS 7 0 rfl rfl hin hd (fun H locs hP hD hS => K H locs arr hP hD hS hl)
theorem M_n10 (C : CxOk E RX1 cc nL G rm) (hd : decode cc pc = .ok (.arraylength, 1)) (K : V E nL k n (wM G b T) (pc + 1) ls (.int 3 :: st)) : V E nL k n (wM G b T) pc ls (.ref (b 10) :: st) := by
  obtain ⟨p, l, e, R, s, m, args, below, meth, c, Q, A, G'⟩ := E
  obtain ⟨hx, hb, hml, hown, hts, hK, hA, hlk, rfl, hGG, hW0⟩ := C
  subst G'
  exact fun H locs arr hP hD hS hl => va_alen (v := 3) hx hb hK hP 7 0 rfl rfl rfl hd (K H locs arr hP hD hS hl)
theorem M_l11 {i : Int32} (C : CxOk E RX1 cc nL G rm) (hd : decode cc pc = .ok (.iaload, 1)) (hin : vp_in i 9) (K : V E nL k n (wM G b T) (pc + 1) ls (.int (T.2.2 11 i.toNatClampNeg) :: st)) : V E nL k n (wM G b T) pc ls (.int i :: .ref (b 11) :: st) := by
  obtain ⟨p, l, e, R, s, m, args, below, meth, c, Q, A, G'⟩ := E
  obtain ⟨hx, hb, hml, hown, hts, hK, hA, hlk, rfl, hGG, hW0⟩ := C
  subst G'
  exact fun H locs arr hP hD hS hl => va_iald hx hb hK hP 8 0 rfl rfl hin hd (K H locs arr hP hD hS hl)
theorem M_s11 {i x : Int32} (C : CxOk E RX1 cc nL G rm) (hd : decode cc pc = .ok (.iastore, 1)) (hin : vp_in i 9) (K : V E nL k n (wM G b (setMa T 11 (upd (T.2.2 11) i.toNatClampNeg x))) (pc + 1) ls st) : V E nL k n (wM G b T) pc ls (.int x :: .int i :: .ref (b 11) :: st) := by
  obtain ⟨p, l, e, R, s, m, args, below, meth, c, Q, A, G'⟩ := E
  obtain ⟨hx, hb, hml, hown, hts, hK, hA, hlk, rfl, hGG, hW0⟩ := C
  subst G'
  exact fun H locs arr hP hD hS hl => va_iast hx hb hK hP hD hS 8 0 rfl rfl hin hd (fun H locs hP hD hS => K H locs arr hP hD hS hl)
theorem M_n11 (C : CxOk E RX1 cc nL G rm) (hd : decode cc pc = .ok (.arraylength, 1)) (K : V E nL k n (wM G b T) (pc + 1) ls (.int 9 :: st)) : V E nL k n (wM G b T) pc ls (.ref (b 11) :: st) := by
  obtain ⟨p, l, e, R, s, m, args, below, meth, c, Q, A, G'⟩ := E
  obtain ⟨hx, hb, hml, hown, hts, hK, hA, hlk, rfl, hGG, hW0⟩ := C
  subst G'
  exact fun H locs arr hP hD hS hl => va_alen (v := 9) hx hb hK hP 8 0 rfl rfl rfl hd (K H locs arr hP hD hS hl)
theorem M_l13 {i : Int32} (C : CxOk E RX1 cc nL G rm) (hd : decode cc pc = .ok (.iaload, 1)) (hin : vp_in i 6) (K : V E nL k n (wM G b T) (pc + 1) ls (.int (T.2.2 13 i.toNatClampNeg) :: st)) : V E nL k n (wM G b T) pc ls (.int i :: .ref (b 13) :: st) := by
  obtain ⟨p, l, e, R, s, m, args, below, meth, c, Q, A, G'⟩ := E
  obtain ⟨hx, hb, hml, hown, hts, hK, hA, hlk, rfl, hGG, hW0⟩ := C
  subst G'
  exact fun H locs arr hP hD hS hl => va_iald hx hb hK hP 9 0 rfl rfl hin hd (K H locs arr hP hD hS hl)
theorem M_s13 {i x : Int32} (C : CxOk E RX1 cc nL G rm) (hd : decode cc pc = .ok (.iastore, 1)) (hin : vp_in i 6) (K : V E nL k n (wM G b (setMa T 13 (upd (T.2.2 13) i.toNatClampNeg x))) (pc + 1) ls st) : V E nL k n (wM G b T) pc ls (.int x :: .int i :: .ref (b 13) :: st) := by
  obtain ⟨p, l, e, R, s, m, args, below, meth, c, Q, A, G'⟩ := E
  obtain ⟨hx, hb, hml, hown, hts, hK, hA, hlk, rfl, hGG, hW0⟩ := C
  subst G'
  exact fun H locs arr hP hD hS hl => va_iast hx hb hK hP hD hS 9 0 rfl rfl hin hd (fun H locs hP hD hS => K H locs arr hP hD hS hl)
theorem M_n13 (C : CxOk E RX1 cc nL G rm) (hd : decode cc pc = .ok (.arraylength, 1)) (K : V E nL k n (wM G b T) (pc + 1) ls (.int 6 :: st)) : V E nL k n (wM G b T) pc ls (.ref (b 13) :: st) := by
  obtain ⟨p, l, e, R, s, m, args, below, meth, c, Q, A, G'⟩ := E
  obtain ⟨hx, hb, hml, hown, hts, hK, hA, hlk, rfl, hGG, hW0⟩ := C
  subst G'
  exact fun H locs arr hP hD hS hl => va_alen (v := 6) hx hb hK hP 9 0 rfl rfl rfl hd (K H locs arr hP hD hS hl)
theorem M_l14 {i : Int32} (C : CxOk E RX1 cc nL G rm) (hd : decode cc pc = .ok (.iaload, 1)) (hin : vp_in i 6) (K : V E nL k n (wM G b T) (pc + 1) ls (.int (T.2.2 14 i.toNatClampNeg) :: st)) : V E nL k n (wM G b T) pc ls (.int i :: .ref (b 14) :: st) := by
  obtain ⟨p, l, e, R, s, m, args, below, meth, c, Q, A, G'⟩ := E
  obtain ⟨hx, hb, hml, hown, hts, hK, hA, hlk, rfl, hGG, hW0⟩ := C
  subst G'
  exact fun H locs arr hP hD hS hl => va_iald hx hb hK hP 10 0 rfl rfl hin hd (K H locs arr hP hD hS hl)
theorem M_s14 {i x : Int32} (C : CxOk E RX1 cc nL G rm) (hd : decode cc pc = .ok (.iastore, 1)) (hin : vp_in i 6) (K : V E nL k n (wM G b (setMa T 14 (upd (T.2.2 14) i.toNatClampNeg x))) (pc + 1) ls st) : V E nL k n (wM G b T) pc ls (.int x :: .int i :: .ref (b 14) :: st) := by
  obtain ⟨p, l, e, R, s, m, args, below, meth, c, Q, A, G'⟩ := E
  obtain ⟨hx, hb, hml, hown, hts, hK, hA, hlk, rfl, hGG, hW0⟩ := C
  subst G'
  exact fun H locs arr hP hD hS hl => va_iast hx hb hK hP hD hS 10 0 rfl rfl hin hd (fun H locs hP hD hS => K H locs arr hP hD hS hl)
theorem M_n14 (C : CxOk E RX1 cc nL G rm) (hd : decode cc pc = .ok (.arraylength, 1)) (K : V E nL k n (wM G b T) (pc + 1) ls (.int 6 :: st)) : V E nL k n (wM G b T) pc ls (.ref (b 14) :: st) := by
  obtain ⟨p, l, e, R, s, m, args, below, meth, c, Q, A, G'⟩ := E
  obtain ⟨hx, hb, hml, hown, hts, hK, hA, hlk, rfl, hGG, hW0⟩ := C
  subst G'
  exact fun H locs arr hP hD hS hl => va_alen (v := 6) hx hb hK hP 10 0 rfl rfl rfl hd (K H locs arr hP hD hS hl)
theorem M_l15 {i : Int32} (C : CxOk E RX1 cc nL G rm) (hd : decode cc pc = .ok (.iaload, 1)) (hin : vp_in i 6) (K : V E nL k n (wM G b T) (pc + 1) ls (.int (T.2.2 15 i.toNatClampNeg) :: st)) : V E nL k n (wM G b T) pc ls (.int i :: .ref (b 15) :: st) := by
  obtain ⟨p, l, e, R, s, m, args, below, meth, c, Q, A, G'⟩ := E
  obtain ⟨hx, hb, hml, hown, hts, hK, hA, hlk, rfl, hGG, hW0⟩ := C
  subst G'
  exact fun H locs arr hP hD hS hl => va_iald hx hb hK hP 11 0 rfl rfl hin hd (K H locs arr hP hD hS hl)
theorem M_s15 {i x : Int32} (C : CxOk E RX1 cc nL G rm) (hd : decode cc pc = .ok (.iastore, 1)) (hin : vp_in i 6) (K : V E nL k n (wM G b (setMa T 15 (upd (T.2.2 15) i.toNatClampNeg x))) (pc + 1) ls st) : V E nL k n (wM G b T) pc ls (.int x :: .int i :: .ref (b 15) :: st) := by
  obtain ⟨p, l, e, R, s, m, args, below, meth, c, Q, A, G'⟩ := E
  obtain ⟨hx, hb, hml, hown, hts, hK, hA, hlk, rfl, hGG, hW0⟩ := C
  subst G'
  exact fun H locs arr hP hD hS hl => va_iast hx hb hK hP hD hS 11 0 rfl rfl hin hd (fun H locs hP hD hS => K H locs arr hP hD hS hl)
theorem M_n15 (C : CxOk E RX1 cc nL G rm) (hd : decode cc pc = .ok (.arraylength, 1)) (K : V E nL k n (wM G b T) (pc + 1) ls (.int 6 :: st)) : V E nL k n (wM G b T) pc ls (.ref (b 15) :: st) := by
  obtain ⟨p, l, e, R, s, m, args, below, meth, c, Q, A, G'⟩ := E
  obtain ⟨hx, hb, hml, hown, hts, hK, hA, hlk, rfl, hGG, hW0⟩ := C
  subst G'
  exact fun H locs arr hP hD hS hl => va_alen (v := 6) hx hb hK hP 11 0 rfl rfl rfl hd (K H locs arr hP hD hS hl)
theorem M_l18 {i : Int32} (C : CxOk E RX1 cc nL G rm) (hd : decode cc pc = .ok (.baload, 1)) (hin : vp_in i 18) (K : V E nL k n (wM G b T) (pc + 1) ls (.int (T.2.2 18 i.toNatClampNeg) :: st)) : V E nL k n (wM G b T) pc ls (.int i :: .ref (b 18) :: st) := by
  obtain ⟨p, l, e, R, s, m, args, below, meth, c, Q, A, G'⟩ := E
  obtain ⟨hx, hb, hml, hown, hts, hK, hA, hlk, rfl, hGG, hW0⟩ := C
  subst G'
  exact fun H locs arr hP hD hS hl => va_bald hx hb hK hP 12 2 rfl rfl hin hd (K H locs arr hP hD hS hl)
theorem M_s18 {i x : Int32} (C : CxOk E RX1 cc nL G rm) (hd : decode cc pc = .ok (.bastore, 1)) (hin : vp_in i 18) (K : V E nL k n (wM G b (setMa T 18 (upd (T.2.2 18) i.toNatClampNeg (vp_nar .byte x)))) (pc + 1) ls st) : V E nL k n (wM G b T) pc ls (.int x :: .int i :: .ref (b 18) :: st) := by
  obtain ⟨p, l, e, R, s, m, args, below, meth, c, Q, A, G'⟩ := E
  obtain ⟨hx, hb, hml, hown, hts, hK, hA, hlk, rfl, hGG, hW0⟩ := C
  subst G'
  exact fun H locs arr hP hD hS hl => va_bast hx hb hK hP hD hS 12 2 rfl rfl hin hd (fun H locs hP hD hS => K H locs arr hP hD hS hl)
theorem M_n18 (C : CxOk E RX1 cc nL G rm) (hd : decode cc pc = .ok (.arraylength, 1)) (K : V E nL k n (wM G b T) (pc + 1) ls (.int 18 :: st)) : V E nL k n (wM G b T) pc ls (.ref (b 18) :: st) := by
  obtain ⟨p, l, e, R, s, m, args, below, meth, c, Q, A, G'⟩ := E
  obtain ⟨hx, hb, hml, hown, hts, hK, hA, hlk, rfl, hGG, hW0⟩ := C
  subst G'
  exact fun H locs arr hP hD hS hl => va_alen (v := 18) hx hb hK hP 12 2 rfl rfl rfl hd (K H locs arr hP hD hS hl)
theorem M_l23 {i : Int32} (C : CxOk E RX1 cc nL G rm) (hd : decode cc pc = .ok (.iaload, 1)) (hin : vp_in i 5) (K : V E nL k n (wM G b T) (pc + 1) ls (.int (T.2.2 23 i.toNatClampNeg) :: st)) : V E nL k n (wM G b T) pc ls (.int i :: .ref (b 23) :: st) := by
  obtain ⟨p, l, e, R, s, m, args, below, meth, c, Q, A, G'⟩ := E
  obtain ⟨hx, hb, hml, hown, hts, hK, hA, hlk, rfl, hGG, hW0⟩ := C
  subst G'
  exact fun H locs arr hP hD hS hl => va_iald hx hb hK hP 13 0 rfl rfl hin hd (K H locs arr hP hD hS hl)
theorem M_s23 {i x : Int32} (C : CxOk E RX1 cc nL G rm) (hd : decode cc pc = .ok (.iastore, 1)) (hin : vp_in i 5) (K : V E nL k n (wM G b (setMa T 23 (upd (T.2.2 23) i.toNatClampNeg x))) (pc + 1) ls st) : V E nL k n (wM G b T) pc ls (.int x :: .int i :: .ref (b 23) :: st) := by
  obtain ⟨p, l, e, R, s, m, args, below, meth, c, Q, A, G'⟩ := E
  obtain ⟨hx, hb, hml, hown, hts, hK, hA, hlk, rfl, hGG, hW0⟩ := C
  subst G'
  exact fun H locs arr hP hD hS hl => va_iast hx hb hK hP hD hS 13 0 rfl rfl hin hd (fun H locs hP hD hS => K H locs arr hP hD hS hl)
theorem M_n23 (C : CxOk E RX1 cc nL G rm) (hd : decode cc pc = .ok (.arraylength, 1)) (K : V E nL k n (wM G b T) (pc + 1) ls (.int 5 :: st)) : V E nL k n (wM G b T) pc ls (.ref (b 23) :: st) := by
  obtain ⟨p, l, e, R, s, m, args, below, meth, c, Q, A, G'⟩ := E
  obtain ⟨hx, hb, hml, hown, hts, hK, hA, hlk, rfl, hGG, hW0⟩ := C
  subst G'
  exact fun H locs arr hP hD hS hl => va_alen (v := 5) hx hb hK hP 13 0 rfl rfl rfl hd (K H locs arr hP hD hS hl)
theorem M_l25 {i : Int32} (C : CxOk E RX1 cc nL G rm) (hd : decode cc pc = .ok (.iaload, 1)) (hin : vp_in i 5) (K : V E nL k n (wM G b T) (pc + 1) ls (.int (T.2.2 25 i.toNatClampNeg) :: st)) : V E nL k n (wM G b T) pc ls (.int i :: .ref (b 25) :: st) := by
  obtain ⟨p, l, e, R, s, m, args, below, meth, c, Q, A, G'⟩ := E
  obtain ⟨hx, hb, hml, hown, hts, hK, hA, hlk, rfl, hGG, hW0⟩ := C
  subst G'
  exact fun H locs arr hP hD hS hl => va_iald hx hb hK hP 14 0 rfl rfl hin hd (K H locs arr hP hD hS hl)
theorem M_s25 {i x : Int32} (C : CxOk E RX1 cc nL G rm) (hd : decode cc pc = .ok (.iastore, 1)) (hin : vp_in i 5) (K : V E nL k n (wM G b (setMa T 25 (upd (T.2.2 25) i.toNatClampNeg x))) (pc + 1) ls st) : V E nL k n (wM G b T) pc ls (.int x :: .int i :: .ref (b 25) :: st) := by
  obtain ⟨p, l, e, R, s, m, args, below, meth, c, Q, A, G'⟩ := E
  obtain ⟨hx, hb, hml, hown, hts, hK, hA, hlk, rfl, hGG, hW0⟩ := C
  subst G'
  exact fun H locs arr hP hD hS hl => va_iast hx hb hK hP hD hS 14 0 rfl rfl hin hd (fun H locs hP hD hS => K H locs arr hP hD hS hl)
theorem M_n25 (C : CxOk E RX1 cc nL G rm) (hd : decode cc pc = .ok (.arraylength, 1)) (K : V E nL k n (wM G b T) (pc + 1) ls (.int 5 :: st)) : V E nL k n (wM G b T) pc ls (.ref (b 25) :: st) := by
  obtain ⟨p, l, e, R, s, m, args, below, meth, c, Q, A, G'⟩ := E
  obtain ⟨hx, hb, hml, hown, hts, hK, hA, hlk, rfl, hGG, hW0⟩ := C
  subst G'
  exact fun H locs arr hP hD hS hl => va_alen (v := 5) hx hb hK hP 14 0 rfl rfl rfl hd (K H locs arr hP hD hS hl)
theorem M_l27 {i : Int32} (C : CxOk E RX1 cc nL G rm) (hd : decode cc pc = .ok (.iaload, 1)) (hin : vp_in i 15) (K : V E nL k n (wM G b T) (pc + 1) ls (.int (T.2.2 27 i.toNatClampNeg) :: st)) : V E nL k n (wM G b T) pc ls (.int i :: .ref (b 27) :: st) := by
  obtain ⟨p, l, e, R, s, m, args, below, meth, c, Q, A, G'⟩ := E
  obtain ⟨hx, hb, hml, hown, hts, hK, hA, hlk, rfl, hGG, hW0⟩ := C
  subst G'
  exact fun H locs arr hP hD hS hl => va_iald hx hb hK hP 15 0 rfl rfl hin hd (K H locs arr hP hD hS hl)
theorem M_s27 {i x : Int32} (C : CxOk E RX1 cc nL G rm) (hd : decode cc pc = .ok (.iastore, 1)) (hin : vp_in i 15) (K : V E nL k n (wM G b (setMa T 27 (upd (T.2.2 27) i.toNatClampNeg x))) (pc + 1) ls st) : V E nL k n (wM G b T) pc ls (.int x :: .int i :: .ref (b 27) :: st) := by
  obtain ⟨p, l, e, R, s, m, args, below, meth, c, Q, A, G'⟩ := E
  obtain ⟨hx, hb, hml, hown, hts, hK, hA, hlk, rfl, hGG, hW0⟩ := C
  subst G'
  exact fun H locs arr hP hD hS hl => va_iast hx hb hK hP hD hS 15 0 rfl rfl hin hd (fun H locs hP hD hS => K H locs arr hP hD hS hl)
theorem M_n27 (C : CxOk E RX1 cc nL G rm) (hd : decode cc pc = .ok (.arraylength, 1)) (K : V E nL k n (wM G b T) (pc + 1) ls (.int 15 :: st)) : V E nL k n (wM G b T) pc ls (.ref (b 27) :: st) := by
  obtain ⟨p, l, e, R, s, m, args, below, meth, c, Q, A, G'⟩ := E
  obtain ⟨hx, hb, hml, hown, hts, hK, hA, hlk, rfl, hGG, hW0⟩ := C
  subst G'
  exact fun H locs arr hP hD hS hl => va_alen (v := 15) hx hb hK hP 15 0 rfl rfl rfl hd (K H locs arr hP hD hS hl)
theorem M_l32 {i : Int32} (C : CxOk E RX1 cc nL G rm) (hd : decode cc pc = .ok (.iaload, 1)) (hin : vp_in i 9) (K : V E nL k n (wM G b T) (pc + 1) ls (.int (T.2.2 32 i.toNatClampNeg) :: st)) : V E nL k n (wM G b T) pc ls (.int i :: .ref (b 32) :: st) := by
  obtain ⟨p, l, e, R, s, m, args, below, meth, c, Q, A, G'⟩ := E
  obtain ⟨hx, hb, hml, hown, hts, hK, hA, hlk, rfl, hGG, hW0⟩ := C
  subst G'
  exact fun H locs arr hP hD hS hl => va_iald hx hb hK hP 16 0 rfl rfl hin hd (K H locs arr hP hD hS hl)
theorem M_s32 {i x : Int32} (C : CxOk E RX1 cc nL G rm) (hd : decode cc pc = .ok (.iastore, 1)) (hin : vp_in i 9) (K : V E nL k n (wM G b (setMa T 32 (upd (T.2.2 32) i.toNatClampNeg x))) (pc + 1) ls st) : V E nL k n (wM G b T) pc ls (.int x :: .int i :: .ref (b 32) :: st) := by
  obtain ⟨p, l, e, R, s, m, args, below, meth, c, Q, A, G'⟩ := E
  obtain ⟨hx, hb, hml, hown, hts, hK, hA, hlk, rfl, hGG, hW0⟩ := C
  subst G'
  exact fun H locs arr hP hD hS hl => va_iast hx hb hK hP hD hS 16 0 rfl rfl hin hd (fun H locs hP hD hS => K H locs arr hP hD hS hl)
theorem M_n32 (C : CxOk E RX1 cc nL G rm) (hd : decode cc pc = .ok (.arraylength, 1)) (K : V E nL k n (wM G b T) (pc + 1) ls (.int 9 :: st)) : V E nL k n (wM G b T) pc ls (.ref (b 32) :: st) := by
  obtain ⟨p, l, e, R, s, m, args, below, meth, c, Q, A, G'⟩ := E
  obtain ⟨hx, hb, hml, hown, hts, hK, hA, hlk, rfl, hGG, hW0⟩ := C
  subst G'
  exact fun H locs arr hP hD hS hl => va_alen (v := 9) hx hb hK hP 16 0 rfl rfl rfl hd (K H locs arr hP hD hS hl)
theorem M_l33 {i : Int32} (C : CxOk E RX1 cc nL G rm) (hd : decode cc pc = .ok (.iaload, 1)) (hin : vp_in i 3) (K : V E nL k n (wM G b T) (pc + 1) ls (.int (T.2.2 33 i.toNatClampNeg) :: st)) : V E nL k n (wM G b T) pc ls (.int i :: .ref (b 33) :: st) := by
  obtain ⟨p, l, e, R, s, m, args, below, meth, c, Q, A, G'⟩ := E
  obtain ⟨hx, hb, hml, hown, hts, hK, hA, hlk, rfl, hGG, hW0⟩ := C
  subst G'
  exact fun H locs arr hP hD hS hl => va_iald hx hb hK hP 17 0 rfl rfl hin hd (K H locs arr hP hD hS hl)
theorem M_s33 {i x : Int32} (C : CxOk E RX1 cc nL G rm) (hd : decode cc pc = .ok (.iastore, 1)) (hin : vp_in i 3) (K : V E nL k n (wM G b (setMa T 33 (upd (T.2.2 33) i.toNatClampNeg x))) (pc + 1) ls st) : V E nL k n (wM G b T) pc ls (.int x :: .int i :: .ref (b 33) :: st) := by
  obtain ⟨p, l, e, R, s, m, args, below, meth, c, Q, A, G'⟩ := E
  obtain ⟨hx, hb, hml, hown, hts, hK, hA, hlk, rfl, hGG, hW0⟩ := C
  subst G'
  exact fun H locs arr hP hD hS hl => va_iast hx hb hK hP hD hS 17 0 rfl rfl hin hd (fun H locs hP hD hS => K H locs arr hP hD hS hl)
theorem M_n33 (C : CxOk E RX1 cc nL G rm) (hd : decode cc pc = .ok (.arraylength, 1)) (K : V E nL k n (wM G b T) (pc + 1) ls (.int 3 :: st)) : V E nL k n (wM G b T) pc ls (.ref (b 33) :: st) := by
  obtain ⟨p, l, e, R, s, m, args, below, meth, c, Q, A, G'⟩ := E
  obtain ⟨hx, hb, hml, hown, hts, hK, hA, hlk, rfl, hGG, hW0⟩ := C
  subst G'
  exact fun H locs arr hP hD hS hl => va_alen (v := 3) hx hb hK hP 17 0 rfl rfl rfl hd (K H locs arr hP hD hS hl)
theorem M_l34 {i : Int32} (C : CxOk E RX1 cc nL G rm) (hd : decode cc pc = .ok (.iaload, 1)) (hin : vp_in i 3) (K : V E nL k n (wM G b T) (pc + 1) ls (.int (T.2.2 34 i.toNatClampNeg) :: st)) : V E nL k n (wM G b T) pc ls (.int i :: .ref (b 34) :: st) := by
  obtain ⟨p, l, e, R, s, m, args, below, meth, c, Q, A, G'⟩ := E
  obtain ⟨hx, hb, hml, hown, hts, hK, hA, hlk, rfl, hGG, hW0⟩ := C
  subst G'
  exact fun H locs arr hP hD hS hl => va_iald hx hb hK hP 18 0 rfl rfl hin hd (K H locs arr hP hD hS hl)
theorem M_s34 {i x : Int32} (C : CxOk E RX1 cc nL G rm) (hd : decode cc pc = .ok (.iastore, 1)) (hin : vp_in i 3) (K : V E nL k n (wM G b (setMa T 34 (upd (T.2.2 34) i.toNatClampNeg x))) (pc + 1) ls st) : V E nL k n (wM G b T) pc ls (.int x :: .int i :: .ref (b 34) :: st) := by
  obtain ⟨p, l, e, R, s, m, args, below, meth, c, Q, A, G'⟩ := E
  obtain ⟨hx, hb, hml, hown, hts, hK, hA, hlk, rfl, hGG, hW0⟩ := C
  subst G'
  exact fun H locs arr hP hD hS hl => va_iast hx hb hK hP hD hS 18 0 rfl rfl hin hd (fun H locs hP hD hS => K H locs arr hP hD hS hl)
theorem M_n34 (C : CxOk E RX1 cc nL G rm) (hd : decode cc pc = .ok (.arraylength, 1)) (K : V E nL k n (wM G b T) (pc + 1) ls (.int 3 :: st)) : V E nL k n (wM G b T) pc ls (.ref (b 34) :: st) := by
  obtain ⟨p, l, e, R, s, m, args, below, meth, c, Q, A, G'⟩ := E
  obtain ⟨hx, hb, hml, hown, hts, hK, hA, hlk, rfl, hGG, hW0⟩ := C
  subst G'
  exact fun H locs arr hP hD hS hl => va_alen (v := 3) hx hb hK hP 18 0 rfl rfl rfl hd (K H locs arr hP hD hS hl)
theorem M_l35 {i : Int32} (C : CxOk E RX1 cc nL G rm) (hd : decode cc pc = .ok (.iaload, 1)) (hin : vp_in i 3) (K : V E nL k n (wM G b T) (pc + 1) ls (.int (T.2.2 35 i.toNatClampNeg) :: st)) : V E nL k n (wM G b T) pc ls (.int i :: .ref (b 35) :: st) := by
  obtain ⟨p, l, e, R, s, m, args, below, meth, c, Q, A, G'⟩ := E
  obtain ⟨hx, hb, hml, hown, hts, hK, hA, hlk, rfl, hGG, hW0⟩ := C
  subst G'
  exact fun H locs arr hP hD hS hl => va_iald hx hb hK hP 19 0 rfl rfl hin hd (K H locs arr hP hD hS hl)
theorem M_s35 {i x : Int32} (C : CxOk E RX1 cc nL G rm) (hd : decode cc pc = .ok (.iastore, 1)) (hin : vp_in i 3) (K : V E nL k n (wM G b (setMa T 35 (upd (T.2.2 35) i.toNatClampNeg x))) (pc + 1) ls st) : V E nL k n (wM G b T) pc ls (.int x :: .int i :: .ref (b 35) :: st) := by
  obtain ⟨p, l, e, R, s, m, args, below, meth, c, Q, A, G'⟩ := E
  obtain ⟨hx, hb, hml, hown, hts, hK, hA, hlk, rfl, hGG, hW0⟩ := C
  subst G'
  exact fun H locs arr hP hD hS hl => va_iast hx hb hK hP hD hS 19 0 rfl rfl hin hd (fun H locs hP hD hS => K H locs arr hP hD hS hl)
theorem M_n35 (C : CxOk E RX1 cc nL G rm) (hd : decode cc pc = .ok (.arraylength, 1)) (K : V E nL k n (wM G b T) (pc + 1) ls (.int 3 :: st)) : V E nL k n (wM G b T) pc ls (.ref (b 35) :: st) := by
  obtain ⟨p, l, e, R, s, m, args, below, meth, c, Q, A, G'⟩ := E
  obtain ⟨hx, hb, hml, hown, hts, hK, hA, hlk, rfl, hGG, hW0⟩ := C
  subst G'
  exact fun H locs arr hP hD hS hl => va_alen (v := 3) hx hb hK hP 19 0 rfl rfl rfl hd (K H locs arr hP hD hS hl)
theorem M_l36 {i : Int32} (C : CxOk E RX1 cc nL G rm) (hd : decode cc pc = .ok (.iaload, 1)) (hin : vp_in i 6) (K : V E nL k n (wM G b T) (pc + 1) ls (.int (T.2.2 36 i.toNatClampNeg) :: st)) : V E nL k n (wM G b T) pc ls (.int i :: .ref (b 36) :: st) := by
  obtain ⟨p, l, e, R, s, m, args, below, meth, c, Q, A, G'⟩ := E
  obtain ⟨hx, hb, hml, hown, hts, hK, hA, hlk, rfl, hGG, hW0⟩ := C
  subst G'
  exact fun H locs arr hP hD hS hl => va_iald hx hb hK hP 20 0 rfl rfl hin hd (K H locs arr hP hD hS hl)
theorem M_s36 {i x : Int32} (C : CxOk E RX1 cc nL G rm) (hd : decode cc pc = .ok (.iastore, 1)) (hin : vp_in i 6) (K : V E nL k n (wM G b (setMa T 36 (upd (T.2.2 36) i.toNatClampNeg x))) (pc + 1) ls st) : V E nL k n (wM G b T) pc ls (.int x :: .int i :: .ref (b 36) :: st) := by
  obtain ⟨p, l, e, R, s, m, args, below, meth, c, Q, A, G'⟩ := E
  obtain ⟨hx, hb, hml, hown, hts, hK, hA, hlk, rfl, hGG, hW0⟩ := C
  subst G'
  exact fun H locs arr hP hD hS hl => va_iast hx hb hK hP hD hS 20 0 rfl rfl hin hd (fun H locs hP hD hS => K H locs arr hP hD hS hl)
theorem M_n36 (C : CxOk E RX1 cc nL G rm) (hd : decode cc pc = .ok (.arraylength, 1)) (K : V E nL k n (wM G b T) (pc + 1) ls (.int 6 :: st)) : V E nL k n (wM G b T) pc ls (.ref (b 36) :: st) := by
  obtain ⟨p, l, e, R, s, m, args, below, meth, c, Q, A, G'⟩ := E
  obtain ⟨hx, hb, hml, hown, hts, hK, hA, hlk, rfl, hGG, hW0⟩ := C
  subst G'
  exact fun H locs arr hP hD hS hl => va_alen (v := 6) hx hb hK hP 20 0 rfl rfl rfl hd (K H locs arr hP hD hS hl)
theorem M_l37 {i : Int32} (C : CxOk E RX1 cc nL G rm) (hd : decode cc pc = .ok (.iaload, 1)) (hin : vp_in i 6) (K : V E nL k n (wM G b T) (pc + 1) ls (.int (T.2.2 37 i.toNatClampNeg) :: st)) : V E nL k n (wM G b T) pc ls (.int i :: .ref (b 37) :: st) := by
  obtain ⟨p, l, e, R, s, m, args, below, meth, c, Q, A, G'⟩ := E
  obtain ⟨hx, hb, hml, hown, hts, hK, hA, hlk, rfl, hGG, hW0⟩ := C
  subst G'
  exact fun H locs arr hP hD hS hl => va_iald hx hb hK hP 21 0 rfl rfl hin hd (K H locs arr hP hD hS hl)
theorem M_s37 {i x : Int32} (C : CxOk E RX1 cc nL G rm) (hd : decode cc pc = .ok (.iastore, 1)) (hin : vp_in i 6) (K : V E nL k n (wM G b (setMa T 37 (upd (T.2.2 37) i.toNatClampNeg x))) (pc + 1) ls st) : V E nL k n (wM G b T) pc ls (.int x :: .int i :: .ref (b 37) :: st) := by
  obtain ⟨p, l, e, R, s, m, args, below, meth, c, Q, A, G'⟩ := E
  obtain ⟨hx, hb, hml, hown, hts, hK, hA, hlk, rfl, hGG, hW0⟩ := C
  subst G'
  exact fun H locs arr hP hD hS hl => va_iast hx hb hK hP hD hS 21 0 rfl rfl hin hd (fun H locs hP hD hS => K H locs arr hP hD hS hl)
theorem M_n37 (C : CxOk E RX1 cc nL G rm) (hd : decode cc pc = .ok (.arraylength, 1)) (K : V E nL k n (wM G b T) (pc + 1) ls (.int 6 :: st)) : V E nL k n (wM G b T) pc ls (.ref (b 37) :: st) := by
  obtain ⟨p, l, e, R, s, m, args, below, meth, c, Q, A, G'⟩ := E
  obtain ⟨hx, hb, hml, hown, hts, hK, hA, hlk, rfl, hGG, hW0⟩ := C
  subst G'
  exact fun H locs arr hP hD hS hl => va_alen (v := 6) hx hb hK hP 21 0 rfl rfl rfl hd (K H locs arr hP hD hS hl)
theorem M_l38 {i : Int32} (C : CxOk E RX1 cc nL G rm) (hd : decode cc pc = .ok (.iaload, 1)) (hin : vp_in i 6) (K : V E nL k n (wM G b T) (pc + 1) ls (.int (T.2.2 38 i.toNatClampNeg) :: st)) : V E nL k n (wM G b T) pc ls (.int i :: .ref (b 38) :: st) := by
  obtain ⟨p, l, e, R, s, m, args, below, meth, c, Q, A, G'⟩ := E
  obtain ⟨hx, hb, hml, hown, hts, hK, hA, hlk, rfl, hGG, hW0⟩ := C
  subst G'
  exact fun H locs arr hP hD hS hl => va_iald hx hb hK hP 22 0 rfl rfl hin hd (K H locs arr hP hD hS hl)
theorem M_s38 {i x : Int32} (C : CxOk E RX1 cc nL G rm) (hd : decode cc pc = .ok (.iastore, 1)) (hin : vp_in i 6) (K : V E nL k n (wM G b (setMa T 38 (upd (T.2.2 38) i.toNatClampNeg x))) (pc + 1) ls st) : V E nL k n (wM G b T) pc ls (.int x :: .int i :: .ref (b 38) :: st) := by
  obtain ⟨p, l, e, R, s, m, args, below, meth, c, Q, A, G'⟩ := E
  obtain ⟨hx, hb, hml, hown, hts, hK, hA, hlk, rfl, hGG, hW0⟩ := C
  subst G'
  exact fun H locs arr hP hD hS hl => va_iast hx hb hK hP hD hS 22 0 rfl rfl hin hd (fun H locs hP hD hS => K H locs arr hP hD hS hl)
theorem M_n38 (C : CxOk E RX1 cc nL G rm) (hd : decode cc pc = .ok (.arraylength, 1)) (K : V E nL k n (wM G b T) (pc + 1) ls (.int 6 :: st)) : V E nL k n (wM G b T) pc ls (.ref (b 38) :: st) := by
  obtain ⟨p, l, e, R, s, m, args, below, meth, c, Q, A, G'⟩ := E
  obtain ⟨hx, hb, hml, hown, hts, hK, hA, hlk, rfl, hGG, hW0⟩ := C
  subst G'
  exact fun H locs arr hP hD hS hl => va_alen (v := 6) hx hb hK hP 22 0 rfl rfl rfl hd (K H locs arr hP hD hS hl)
end VM
