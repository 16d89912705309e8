
set_option maxRecDepth 100000
/-- a condition's parts, in order -/
def c_lv : Cond → List Cond
  | .and a b => c_lv a ++ c_lv b
  | c => [c]
theorem c_lv_ok {args : Array Value} {s : State} : ∀ (c : Cond), c.before args s = true → ∀ x ∈ c_lv c, x.before args s = true
  | .and a b, h, x, hx => by
    rw [Cond.before_and, Bool.and_eq_true] at h
    rcases List.mem_append.mp hx with e | e
    · exact c_lv_ok a h.1 x e
    · exact c_lv_ok b h.2 x e
  | c, h, x, hx => by
    unfold c_lv at hx
    split at hx
    · rename_i a b
      rw [Cond.before_and, Bool.and_eq_true] at h
      rcases List.mem_append.mp hx with e | e
      · exact c_lv_ok a h.1 x e
      · exact c_lv_ok b h.2 x e
    · rw [List.mem_singleton.mp hx]
      exact h
def nw_lv : List Cond := c_lv narrow_1
theorem nw_ok {G : Gx} (B : Base G) {x : Cond} (i : Nat) (h : nw_lv[i]? = some x) : x.before #[Value.ref G.2.2.2] G.2.2.1 = true := by
  have h0 := B.2.2
  rw [Cond.before_and, Bool.and_eq_true] at h0
  exact c_lv_ok _ h0.2 x (List.mem_of_getElem? h)
