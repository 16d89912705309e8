
set_option maxRecDepth 100000
section VM
variable {E : Cx} {own : String} {cc : ByteArray} {nL k n : Nat} {G : Gx} {rm : Room} {w : va_W} {pc : Nat} {ls : List (Option Value)} {st : List Value}
theorem r_more0 {ci o q0 : Nat} {Cn : String} {T : u_T} {N : Nat} {fs : List Value} (C : CxOk E RX2 cc nL G rm) (B : Base G) (hland : (Cond.landsInDefault Cn yPmore yX7_more).before #[Value.ref G.2.2.2] G.2.2.1 = true) (hrc : w[q0]? = some (o, .inr (ci, fs))) (hcl : clsA[ci]? = some (Cn, T, N)) (hd : decode cc pc = .ok (.invokevirtual 13, 3)) (hroom : 1 ≤ rm.frames ∧ 20 ≤ rm.locals) (hcat : (st.map fun v => v.category).sum ≤ 8) (K : V E nL k n w (pc + 3) ls (.int 0 :: st)) : V E nL k n w pc ls (.ref o :: st) := by
  obtain ⟨p, l, e, R, s, m, args, below, meth, c, Q, A, G'⟩ := E
  obtain ⟨hx, hb, hml, hown, hts, hK, hA, hlk, rfl, rfl, hW0⟩ := C
  intro H locs arr hP hD hS hl
  obtain ⟨cellB, hcB, hoB, hclB⟩ := va_recv hK hP (ci := ci) (q0 := q0) hcl hrc
  intro U hU X
  have hal := hW0.alike
  have w0 : (Cond.methodLink RX2 13 yPmore).before args s = true := word_at hW0 (Or.inl (by first | rfl | simp [Cond.onTables, Cond.keeps, Cond.steady])) (nw_ok B 0 nw0)
  have w1 : (Cond.sameMethod RX2 "BeatenInstead$Feels" "more" "()I").before args s = true := word_at hW0 (Or.inl (by first | rfl | simp [Cond.onTables, Cond.keeps, Cond.steady])) (nw_ok B 1 nw1)
  obtain ⟨mk, mm, hnm, hmm, hst, habs⟩ := Cond.instanceMethod_spec (hts _ q432)
  obtain ⟨mm', cM, hmm', -, -, -, -, -, -, hsig⟩ := Cond.code_spec hnm (hts _ q434)
  cases hmm.symm.trans hmm'
  obtain ⟨c1, r1, m1, rm1, f1, f2, f3, f4, f5, f6⟩ := dm_lands X.admits hland
  obtain ⟨cn, ck, r2, -, -, -, g1, g2⟩ := Cond.sameMethod_found (nw_ok B 1 nw1)
  have hN : ∀ y : MethodName, s.methodNamed? y = G'.2.2.1.methodNamed? y := fun y => State.methodNamed?_setVm hal y
  have e1 : r2 = mk := Option.some.inj (((hN _).trans g2).symm.trans hnm)
  have e2 : m1 = mk := Option.some.inj (((hN _).trans f3).symm.trans hnm)
  have e3 : r1 = r2 := Option.some.inj (f2.symm.trans g1)
  subst e1
  subst e2
  subst e3
  have hcc : c1 = cellB.cls := Option.some.inj (((hal.findClass Cn none).trans f1).symm.trans hclB)
  subst hcc
  have hpk : ∀ vm', s.vm.Alike vm' → PicksM e cellB.cls r1 r1 vm' := fun vm' ha => by
    have hb := hal.trans ha
    exact dm_picks (by rw [hb.selectMethod]; exact f5) (by rw [hb.method?]; exact f4) (by rw [hb.method?]; exact f4) (by unfold NearB; rw [dm_near hb]; exact f6)
  obtain ⟨vm₁, X₁, hstep⟩ := dm_step X hx hown w0 w1 ⟨by decide, by decide⟩ hnm hmm hst (a := o) (by rw [hU]; exact hcB) (fun z h => by rw [h] at hoB; cases hoB) hpk hmm habs (g := F0 m pc arr (.ref o :: st)) rfl (vs := []) (rest := st) (by have h9 := Option.some.inj ((show parseMethodDescriptor "()I" = some (⟨[], some .int⟩) by decide +kernel).symm.trans hsig); rw [← h9]; rfl) rfl (by rw [hb]; exact hd)
  have hz : l = l := rfl
  obtain ⟨v, Bp, X', ⟨rfl, rfl⟩, hsteps⟩ := dm_zero (l := l) (R := R) (W := 8) (below := below) (args := args) hx (y := yX7_more) (by decide) (hts _ q434) dX7_more_0 dX7_more_1 hroom.1 (by omega) m meth c ⟨U.setVm vm₁, locs, k, n⟩ { F0 m pc arr (.ref o :: st) with stack := st } (.invokevirtual 13) r1 #[.ref o] X₁ rfl (by rw [hml]; exact hl.1) (by rw [hb]; exact hd) (lv_room hcat) (X₁.named hnm) ⟨o, rfl⟩
  obtain ⟨t2, a1, b1⟩ := K H locs arr hP hD hS hl (U.setVm vm₁) hU X₁
  exact ⟨t2, hstep _ fun acts => by rw [doInvoke_state]; exact hsteps.trans a1, b1⟩
end VM
