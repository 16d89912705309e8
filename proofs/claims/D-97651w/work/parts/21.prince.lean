
set_option maxRecDepth 100000
abbrev xnp (S : StX) : Nat := S.2.2.2.1
abbrev xpa (S : StX) : Nat → Nat := S.2.2.2.2.1
abbrev xpk (S : StX) : Nat → Nat := S.2.2.2.2.2.1
abbrev xpf (S : StX) : Nat → Nat → Int32 := S.2.2.2.2.2.2
abbrev xar (S : StX) : Nat → Nat → Int32 := S.2.2.1
abbrev mar (T : StM) : Nat → Nat → Int32 := T.2.2
def feels (kd : Nat) (f : Int32) : Int32 := match kd with
  | 0 => f
  | 1 => if f < 5 then 0 else f
  | 2 => 9 - f
  | 3 => f / 2
  | _ => (if f < 5 then 0 else f) + 2
section VP
variable {E : Cx} {cc : ByteArray} {nL k n : Nat} {G : Gx} {rm : Room} {pc : Nat} {ls : List (Option Value)} {st : List Value} {a : Nat → Nat} {S : StX}
theorem P_feelsAll {u idx : Nat} {f : Int32} (C : CxOk E RX0 cc nL G rm) (B : Base G) (hl : Cond.methodLink RX0 idx yX2_feelsAll ∈ lw_all) (hd : decode cc pc = .ok (.invokevirtual idx, 3)) (hu : u < S.2.2.2.1) (hk5 : S.2.2.2.2.2.1 u < 5) (hroom : k ≤ rm.cells ∧ n ≤ rm.slots ∧ 3 ≤ rm.frames ∧ 150 ≤ rm.locals) (hcat : (st.map fun v => v.category).sum ≤ 8) (K : V E nL k n (wX G a S) (pc + 3) ls (.int (feels (S.2.2.2.2.2.1 u) f) :: st)) : V E nL k n (wX G a S) pc ls (.int f :: .ref (S.2.2.2.2.1 u) :: st) := by
  sorry
theorem P_kind {u idx : Nat} (C : CxOk E RX0 cc nL G rm) (B : Base G) (hl : Cond.methodLink RX0 idx yX2_kind ∈ lw_all) (hd : decode cc pc = .ok (.invokevirtual idx, 3)) (hu : u < S.2.2.2.1) (hk5 : S.2.2.2.2.2.1 u < 5) (hroom : k ≤ rm.cells ∧ n ≤ rm.slots ∧ 3 ≤ rm.frames ∧ 150 ≤ rm.locals) (hcat : (st.map fun v => v.category).sum ≤ 8) (K : V E nL k n (wX G a S) (pc + 3) ls (.int (nI (S.2.2.2.2.2.1 u)) :: st)) : V E nL k n (wX G a S) pc ls (.ref (S.2.2.2.2.1 u) :: st) := by
  sorry
theorem P_g0n {u : Nat} (C : CxOk E RX0 cc nL G rm) (hd : decode cc pc = .ok (.getfield 174, 3)) (hp : u < S.2.2.2.1) (hk5 : S.2.2.2.2.2.1 u < 5) (hn : S.2.2.2.2.2.2 u 0 = nI u) (K : V E nL k n (wX G a S) (pc + 3) ls (.int (nI u) :: st)) : V E nL k n (wX G a S) pc ls (.ref (S.2.2.2.2.1 u) :: st) := P_g0 C hd hp hk5 (by rw [hn]; exact K)
theorem P_g0e {r : Nat} (u : Nat) (C : CxOk E RX0 cc nL G rm) (hd : decode cc pc = .ok (.getfield 174, 3)) (hr : S.2.2.2.2.1 u = r) (hp : u < S.2.2.2.1) (hk5 : S.2.2.2.2.2.1 u < 5) (K : V E nL k n (wX G a S) (pc + 3) ls (.int (S.2.2.2.2.2.2 u 0) :: st)) : V E nL k n (wX G a S) pc ls (.ref r :: st) := by
  subst hr
  exact P_g0 C hd hp hk5 K
theorem P_g1e {r : Nat} (u : Nat) (C : CxOk E RX0 cc nL G rm) (hd : decode cc pc = .ok (.getfield 177, 3)) (hr : S.2.2.2.2.1 u = r) (hp : u < S.2.2.2.1) (hk5 : S.2.2.2.2.2.1 u < 5) (K : V E nL k n (wX G a S) (pc + 3) ls (.int (S.2.2.2.2.2.2 u 1) :: st)) : V E nL k n (wX G a S) pc ls (.ref r :: st) := by
  subst hr
  exact P_g1 C hd hp hk5 K
theorem P_g2e {r : Nat} (u : Nat) (C : CxOk E RX0 cc nL G rm) (hd : decode cc pc = .ok (.getfield 180, 3)) (hr : S.2.2.2.2.1 u = r) (hp : u < S.2.2.2.1) (hk5 : S.2.2.2.2.2.1 u < 5) (K : V E nL k n (wX G a S) (pc + 3) ls (.int (S.2.2.2.2.2.2 u 2) :: st)) : V E nL k n (wX G a S) pc ls (.ref r :: st) := by
  subst hr
  exact P_g2 C hd hp hk5 K
theorem P_g3e {r : Nat} (u : Nat) (C : CxOk E RX0 cc nL G rm) (hd : decode cc pc = .ok (.getfield 141, 3)) (hr : S.2.2.2.2.1 u = r) (hp : u < S.2.2.2.1) (hk5 : S.2.2.2.2.2.1 u < 5) (K : V E nL k n (wX G a S) (pc + 3) ls (.int (S.2.2.2.2.2.2 u 3) :: st)) : V E nL k n (wX G a S) pc ls (.ref r :: st) := by
  subst hr
  exact P_g3 C hd hp hk5 K
theorem P_g4e {r : Nat} (u : Nat) (C : CxOk E RX0 cc nL G rm) (hd : decode cc pc = .ok (.getfield 339, 3)) (hr : S.2.2.2.2.1 u = r) (hp : u < S.2.2.2.1) (hk5 : S.2.2.2.2.2.1 u < 5) (K : V E nL k n (wX G a S) (pc + 3) ls (.int (S.2.2.2.2.2.2 u 4) :: st)) : V E nL k n (wX G a S) pc ls (.ref r :: st) := by
  subst hr
  exact P_g4 C hd hp hk5 K
theorem P_g5e {r : Nat} (u : Nat) (C : CxOk E RX0 cc nL G rm) (hd : decode cc pc = .ok (.getfield 342, 3)) (hr : S.2.2.2.2.1 u = r) (hp : u < S.2.2.2.1) (hk5 : S.2.2.2.2.2.1 u < 5) (K : V E nL k n (wX G a S) (pc + 3) ls (.int (S.2.2.2.2.2.2 u 5) :: st)) : V E nL k n (wX G a S) pc ls (.ref r :: st) := by
  subst hr
  exact P_g5 C hd hp hk5 K
end VP
