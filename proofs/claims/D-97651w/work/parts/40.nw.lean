
set_option maxRecDepth 100000
/-- a condition's parts, in order -/
def c_lv : Cond → List Cond
  | .and a b => c_lv a ++ c_lv b
  | c => [c]
theorem c_lv_ok {args : Array Value} {s : State} : ∀ (c : Cond), c.before args s = true → ∀ x ∈ c_lv c, x.before args s = true
  | .and a b, h, x, hx => by
    rw [Cond.before_and, Bool.and_eq_true] at h
    rcases List.mem_append.mp hx with e | e
    · exact c_lv_ok a h.1 x e
    · exact c_lv_ok b h.2 x e
  | c, h, x, hx => by
    unfold c_lv at hx
    split at hx
    · rename_i a b
      rw [Cond.before_and, Bool.and_eq_true] at h
      rcases List.mem_append.mp hx with e | e
      · exact c_lv_ok a h.1 x e
      · exact c_lv_ok b h.2 x e
    · rw [List.mem_singleton.mp hx]
      exact h
def nw_lv : List Cond := c_lv narrow_1
theorem nw_ok {G : Gx} (B : Base G) {x : Cond} (i : Nat) (h : nw_lv[i]? = some x) : x.before #[Value.ref G.2.2.2] G.2.2.1 = true := by
  have h0 := B.2.2
  rw [Cond.before_and, Bool.and_eq_true] at h0
  exact c_lv_ok _ h0.2 x (List.mem_of_getElem? h)

def yPmore : MethodName := ⟨RX2, "more", "()I"⟩
theorem nw0 : nw_lv[0]? = some (Cond.methodLink RX2 13 yPmore) := by rfl
theorem nw1 : nw_lv[1]? = some (Cond.sameMethod RX2 "BeatenInstead$Feels" "more" "()I") := by rfl
theorem nw74 : nw_lv[74]? = some (Cond.landsInDefault RX4 yPmore yX7_more) := by rfl
theorem nw75 : nw_lv[75]? = some (Cond.landsInDefault RX5 yPmore yX7_more) := by rfl
theorem nw76 : nw_lv[76]? = some (Cond.landsInDefault RX2 yPmore yX7_more) := by rfl
theorem nw77 : nw_lv[77]? = some (Cond.landsInDefault RX3 yPmore yX7_more) := by rfl
/-- what the word says, as the walk needs it -/
theorem dm_lands {e : Env} {l : Launch} {s : State} {args : Array Value} {C : String} {x y : MethodName} (hadm : l.admits e) (h : (Cond.landsInDefault C x y).before args s = true) : ∃ c r m rm, s.vm.findClass C = some c ∧ s.methodFound? x.cls x.name x.desc = some r ∧ s.methodNamed? y = some m ∧ s.vm.method? r = some rm ∧ selectMethod e.platform s.vm c r = .method m ∧ NearB s.vm c rm.name rm.desc m = true := by
  unfold Cond.before Cond.holds Cond.value at h
  split at h
  · rename_i c r m e1 e2 e3
    cases hr : s.vm.method? r with
    | none => rw [hr] at h; simp at h
    | some rm =>
      rw [hr] at h
      simp only [Option.map_some, beq_iff_eq, Option.some.injEq] at h
      split at h
      · rename_i m' hs
        simp only [Bool.and_eq_true, decide_eq_true_eq] at h
        obtain ⟨⟨⟨⟨rfl, -⟩, -⟩, -⟩, hn⟩ := h
        exact ⟨c, r, m', rm, e1, e2, e3, hr, by rw [Launch.admits_selectMethod hadm]; exact hs, hn⟩
      · cases h
  · simp at h
