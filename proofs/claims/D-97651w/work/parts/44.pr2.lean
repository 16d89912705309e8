
set_option maxRecDepth 100000
section VP
variable {E : Cx} {cc : ByteArray} {nL k n : Nat} {G : Gx} {rm : Room} {pc : Nat} {ls : List (Option Value)} {st : List Value} {a : Nat → Nat} {S : StX}
theorem P_feelsAll1 {u idx : Nat} {f : Int32} (C : CxOk E RX0 cc nL G rm) (B : Base G) (hl : Cond.methodLink RX0 idx yX2_feelsAll ∈ lw_all) (hd : decode cc pc = .ok (.invokevirtual idx, 3)) (hu : u < S.2.2.2.1) (hk5 : S.2.2.2.2.2.1 u < 5) (hroom : k ≤ rm.cells ∧ n ≤ rm.slots ∧ 3 ≤ rm.frames ∧ 150 ≤ rm.locals) (hcat : (st.map fun v => v.category).sum ≤ 8) (K : V E nL k n (wX G a S) (pc + 3) ls (.int (feels (S.2.2.2.2.2.1 u) f) :: st)) : V E nL k n (wX G a S) pc ls (.int f :: .ref (S.2.2.2.2.1 u) :: st) := by
  have hm := List.mem_of_getElem? (X_at (G := G) (a := a) hu)
  unfold pcell at hm
  generalize S.2.2.2.2.1 u = o at *
  generalize hkd : S.2.2.2.2.2.1 u = kd at *
  generalize S.2.2.2.2.2.2 u = g at *
  have hk : kd = 0 ∨ kd = 1 ∨ kd = 2 ∨ kd = 3 ∨ kd = 4 := by omega
  rcases hk with rfl | rfl | rfl | rfl | rfl
  · exact r_callUi (x := yX2_feelsAll) (As := [.int f]) C (kA0 B f) (Wu.of hl q401 q399 q406 q400) q399 q74 q406 ⟨by decide, by decide, pd1⟩ hm rfl rfl hd ⟨Nat.le_trans (by decide) hroom.2.2.1, Nat.le_trans (by decide) hroom.2.2.2⟩ ⟨hroom.1, hroom.2.1⟩ hcat (fun r hr => by rw [hr]; exact K)
  · exact r_callUi (x := yX2_feelsAll) (As := [.int f]) C (kA1 B f) (Wu.of hl q401 q399 q406 q405) q399 q74 q406 ⟨by decide, by decide, pd1⟩ hm rfl rfl hd ⟨Nat.le_trans (by decide) hroom.2.2.1, Nat.le_trans (by decide) hroom.2.2.2⟩ ⟨hroom.1, hroom.2.1⟩ hcat (fun r hr => by rw [hr]; exact K)
  · exact r_callUi (x := yX2_feelsAll) (As := [.int f]) C (kA2 B f) (Wu.of hl q401 q399 q406 q402) q399 q74 q406 ⟨by decide, by decide, pd1⟩ hm rfl rfl hd ⟨Nat.le_trans (by decide) hroom.2.2.1, Nat.le_trans (by decide) hroom.2.2.2⟩ ⟨hroom.1, hroom.2.1⟩ hcat (fun r hr => by rw [hr]; exact K)
  · exact r_callUi (x := yX2_feelsAll) (As := [.int f]) C (kA3 B f) (Wu.of hl q401 q399 q406 q404) q399 q74 q406 ⟨by decide, by decide, pd1⟩ hm rfl rfl hd ⟨Nat.le_trans (by decide) hroom.2.2.1, Nat.le_trans (by decide) hroom.2.2.2⟩ ⟨hroom.1, hroom.2.1⟩ hcat (fun r hr => by rw [hr]; exact K)
  · exact r_callUi (x := yX2_feelsAll) (As := [.int f]) C (kA4 B f) (Wu.of hl q401 q399 q406 q403) q399 q74 q406 ⟨by decide, by decide, pd1⟩ hm rfl rfl hd ⟨Nat.le_trans (by decide) hroom.2.2.1, Nat.le_trans (by decide) hroom.2.2.2⟩ ⟨hroom.1, hroom.2.1⟩ hcat (fun r hr => by rw [hr]; exact K)
theorem P_kind1 {u idx : Nat} (C : CxOk E RX0 cc nL G rm) (B : Base G) (hl : Cond.methodLink RX0 idx yX2_kind ∈ lw_all) (hd : decode cc pc = .ok (.invokevirtual idx, 3)) (hu : u < S.2.2.2.1) (hk5 : S.2.2.2.2.2.1 u < 5) (hroom : k ≤ rm.cells ∧ n ≤ rm.slots ∧ 3 ≤ rm.frames ∧ 150 ≤ rm.locals) (hcat : (st.map fun v => v.category).sum ≤ 8) (K : V E nL k n (wX G a S) (pc + 3) ls (.int (nI (S.2.2.2.2.2.1 u)) :: st)) : V E nL k n (wX G a S) pc ls (.ref (S.2.2.2.2.1 u) :: st) := by
  have hm := List.mem_of_getElem? (X_at (G := G) (a := a) hu)
  unfold pcell at hm
  generalize S.2.2.2.2.1 u = o at *
  generalize hkd : S.2.2.2.2.2.1 u = kd at *
  generalize S.2.2.2.2.2.2 u = g at *
  have hk : kd = 0 ∨ kd = 1 ∨ kd = 2 ∨ kd = 3 ∨ kd = 4 := by omega
  rcases hk with rfl | rfl | rfl | rfl | rfl
  · exact r_callUi (x := yX2_kind) (As := []) C (kX2_kind B) (Wu.of hl q379 q377 q393 q378) q377 q74 q393 ⟨by decide, by decide, pd0⟩ hm rfl rfl hd ⟨Nat.le_trans (by decide) hroom.2.2.1, Nat.le_trans (by decide) hroom.2.2.2⟩ ⟨hroom.1, hroom.2.1⟩ hcat (fun r hr => by rw [hr]; exact K)
  · exact r_callUi (x := yX2_kind) (As := []) C (kX3_kind B) (Wu.of hl q379 q377 q393 q392) q387 q75 q388 ⟨by decide, by decide, pd0⟩ hm rfl rfl hd ⟨Nat.le_trans (by decide) hroom.2.2.1, Nat.le_trans (by decide) hroom.2.2.2⟩ ⟨hroom.1, hroom.2.1⟩ hcat (fun r hr => by rw [hr]; exact K)
  · exact r_callUi (x := yX2_kind) (As := []) C (kX4_kind B) (Wu.of hl q379 q377 q393 q380) q381 q76 q382 ⟨by decide, by decide, pd0⟩ hm rfl rfl hd ⟨Nat.le_trans (by decide) hroom.2.2.1, Nat.le_trans (by decide) hroom.2.2.2⟩ ⟨hroom.1, hroom.2.1⟩ hcat (fun r hr => by rw [hr]; exact K)
  · exact r_callUi (x := yX2_kind) (As := []) C (kX5_kind B) (Wu.of hl q379 q377 q393 q389) q390 q77 q391 ⟨by decide, by decide, pd0⟩ hm rfl rfl hd ⟨Nat.le_trans (by decide) hroom.2.2.1, Nat.le_trans (by decide) hroom.2.2.2⟩ ⟨hroom.1, hroom.2.1⟩ hcat (fun r hr => by rw [hr]; exact K)
  · exact r_callUi (x := yX2_kind) (As := []) C (kX6_kind B (Cn := RX6) (T := TX6) (N := 6) rfl) (Wu.of hl q379 q377 q393 q383) q384 q78 q385 ⟨by decide, by decide, pd0⟩ hm rfl rfl hd ⟨Nat.le_trans (by decide) hroom.2.2.1, Nat.le_trans (by decide) hroom.2.2.2⟩ ⟨hroom.1, hroom.2.1⟩ hcat (fun r hr => by rw [hr]; exact K)
end VP
