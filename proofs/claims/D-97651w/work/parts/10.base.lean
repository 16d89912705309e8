
set_option maxRecDepth 100000
abbrev Gx : Type := va_G × (Nat → ClassId) × State × Nat
abbrev Cx : Type := Program × Launch × Env × Room × State × MethodId × Array Value × List Frame × Method × Code × (State → Prop) × (Nat → Prop) × Gx
abbrev clsA : List vw_C := [(RX0, TX0, 35), (RX1, TX1, 40), (RX2, TX2, 6), (RX3, TX3, 6), (RX4, TX4, 6), (RX5, TX5, 6), (RX6, TX6, 6)]
abbrev tysA (G : Gx) : List (ClassId × FieldType) := [(G.2.1 0, .int), (G.2.1 1, .boolean), (G.2.1 2, .byte), (G.2.1 3, .object "BeatenInstead$Prince")]
/-- locals by place: what is listed is held -/
def lvo : Nat → List (Option Value) → List (Nat × Value)
  | _, [] => []
  | i, none :: r => lvo (i + 1) r
  | i, some v :: r => (i, v) :: lvo (i + 1) r
def lkill : Option Value → Option Value
  | some (.long _) => none
  | some (.double _) => none
  | x => x
def lset : List (Option Value) → Nat → Value → List (Option Value)
  | [], _, _ => []
  | _ :: r, 0, v => some v :: r
  | x :: r, n + 1, v => (match n with | 0 => lkill x | _ => x) :: lset r n v
def lset2 : List (Option Value) → Nat → Value → List (Option Value)
  | [], _, _ => []
  | [_], _, _ => []
  | _ :: _ :: r, 0, v => some v :: none :: r
  | x :: y :: r, n + 1, v => (match n with | 0 => lkill x | _ => x) :: lset2 (y :: r) n v
theorem lkill_some {x : Option Value} {v : Value} (h : lkill x = some v) : x = some v ∧ ¬ v.category = 2 := by
  cases x with
  | none => cases h
  | some w => cases w <;> simp [lkill] at h <;> subst h <;> exact ⟨rfl, by simp [Value.category]⟩
theorem lvo_ge {ls : List (Option Value)} : ∀ {j : Nat} {q : Nat × Value}, q ∈ lvo j ls → j ≤ q.1 := by
  induction ls with
  | nil => intro j q h; cases h
  | cons x r ih =>
    intro j q h
    cases x with
    | none => exact Nat.le_of_succ_le (ih h)
    | some v =>
      rcases List.mem_cons.mp h with e | e
      · rw [e]; exact Nat.le_refl _
      · exact Nat.le_of_succ_le (ih e)
theorem lset_sub {ls : List (Option Value)} {v : Value} : ∀ {j i : Nat} {q : Nat × Value}, q ∈ lvo j (lset ls i v) → q = (j + i, v) ∨ (q ∈ lvo j ls ∧ ¬ q.1 = j + i ∧ ¬ (q.1 + 1 = j + i ∧ q.2.category = 2)) := by
  induction ls with
  | nil => intro j i q h; cases h
  | cons x r ih =>
    intro j i q h
    cases i with
    | zero =>
      rcases List.mem_cons.mp h with e | e
      · exact Or.inl e
      · have h1 := lvo_ge e
        refine Or.inr ⟨?_, by omega, by omega⟩
        cases x with
        | none => exact e
        | some w => exact List.mem_cons_of_mem _ e
    | succ n =>
      have key : q ∈ lvo (j + 1) (lset r n v) → q = (j + (n + 1), v) ∨ (q ∈ lvo j (x :: r) ∧ ¬ q.1 = j + (n + 1) ∧ ¬ (q.1 + 1 = j + (n + 1) ∧ q.2.category = 2)) := by
        intro h
        rcases ih h with e | ⟨e1, e2, e3⟩
        · exact Or.inl (by rw [e]; congr 1; omega)
        · refine Or.inr ⟨?_, by omega, fun z => e3 ⟨by omega, z.2⟩⟩
          cases x with
          | none => exact e1
          | some w => exact List.mem_cons_of_mem _ e1
      cases n with
      | zero =>
        have h : q ∈ lvo j (lkill x :: lset r 0 v) := h
        cases hk : lkill x with
        | none => rw [hk] at h; exact key h
        | some w =>
          rw [hk] at h
          obtain ⟨hx, hc⟩ := lkill_some hk
          rcases List.mem_cons.mp h with e | e
          · rw [e, hx]
            exact Or.inr ⟨List.mem_cons_self, by simp, fun z => hc z.2⟩
          · exact key e
      | succ n =>
        have h : q ∈ lvo j (x :: lset r (n + 1) v) := h
        cases x with
        | none => exact key h
        | some w =>
          rcases List.mem_cons.mp h with e | e
          · rw [e]
            exact Or.inr ⟨List.mem_cons_self, by show ¬ j = _; omega, fun z => by have := z.1; simp at this⟩
          · exact key e
theorem lset2_sub {ls : List (Option Value)} {v : Value} : ∀ {j i : Nat} {q : Nat × Value}, q ∈ lvo j (lset2 ls i v) → q = (j + i, v) ∨ (q ∈ lvo j ls ∧ ¬ q.1 = j + i ∧ ¬ q.1 = j + i + 1 ∧ ¬ (q.1 + 1 = j + i ∧ q.2.category = 2)) := by
  induction ls with
  | nil => intro j i q h; cases h
  | cons x r ih =>
    intro j i q h
    cases r with
    | nil => cases h
    | cons y r =>
      cases i with
      | zero =>
        rcases List.mem_cons.mp h with e | e
        · exact Or.inl e
        · have h1 : j + 1 + 1 ≤ q.1 := lvo_ge (j := j + 1 + 1) e
          refine Or.inr ⟨?_, by omega, by omega, by omega⟩
          have e' : q ∈ lvo (j + 1) (y :: r) := by
            cases y with
            | none => exact e
            | some w => exact List.mem_cons_of_mem _ e
          cases x with
          | none => exact e'
          | some w => exact List.mem_cons_of_mem _ e'
      | succ n =>
        have key : q ∈ lvo (j + 1) (lset2 (y :: r) n v) → q = (j + (n + 1), v) ∨ (q ∈ lvo j (x :: y :: r) ∧ ¬ q.1 = j + (n + 1) ∧ ¬ q.1 = j + (n + 1) + 1 ∧ ¬ (q.1 + 1 = j + (n + 1) ∧ q.2.category = 2)) := by
          intro h
          rcases ih h with e | ⟨e1, e2, e3, e4⟩
          · exact Or.inl (by rw [e]; congr 1; omega)
          · refine Or.inr ⟨?_, by omega, by omega, fun z => e4 ⟨by omega, z.2⟩⟩
            cases x with
            | none => exact e1
            | some w => exact List.mem_cons_of_mem _ e1
        cases n with
        | zero =>
          have h : q ∈ lvo j (lkill x :: lset2 (y :: r) 0 v) := h
          cases hk : lkill x with
          | none => rw [hk] at h; exact key h
          | some w =>
            rw [hk] at h
            obtain ⟨hx, hc⟩ := lkill_some hk
            rcases List.mem_cons.mp h with e | e
            · rw [e, hx]
              exact Or.inr ⟨List.mem_cons_self, by simp, by simp; omega, fun z => hc z.2⟩
            · exact key e
        | succ n =>
          have h : q ∈ lvo j (x :: lset2 (y :: r) (n + 1) v) := h
          cases x with
          | none => exact key h
          | some w =>
            rcases List.mem_cons.mp h with e | e
            · rw [e]
              exact Or.inr ⟨List.mem_cons_self, by show ¬ j = _; omega, by show ¬ j = _; omega, fun z => by have := z.1; simp at this⟩
            · exact key e
theorem lvo_at {ls : List (Option Value)} {v : Value} : ∀ {j i : Nat}, ls[i]? = some (some v) → (j + i, v) ∈ lvo j ls := by
  induction ls with
  | nil => intro j i h; cases h
  | cons x r ih =>
    intro j i h
    cases i with
    | zero => cases x with
      | none => cases h
      | some w => cases h; exact List.mem_cons_self
    | succ n =>
      have h2 : (j + 1 + n, v) ∈ lvo (j + 1) r := ih h
      rw [show j + 1 + n = j + (n + 1) by omega] at h2
      cases x with
      | none => exact h2
      | some w => exact List.mem_cons_of_mem _ h2
theorem lvr {arr : Array Slot} {nL : Nat} {ls : List (Option Value)} {i : Nat} {v : Value} (h : lv_has arr nL (lvo 0 ls)) (hk : ls[i]? = some (some v)) : arr[i]? = some (.val v) := by
  have h1 := h.2.2 _ (lvo_at (j := 0) hk)
  rw [Nat.zero_add] at h1
  exact h1
theorem lvw1 {arr : Array Slot} {nL : Nat} {ls : List (Option Value)} {i : Nat} {v : Value} (h : lv_has arr nL ((i, v) :: (lvo 0 ls).filter (fun q => !(q.1 == i) && !(q.1 + 1 == i && q.2.category == 2)))) : lv_has arr nL (lvo 0 (lset ls i v)) := by
  refine ⟨h.1, h.2.1, fun q hq => ?_⟩
  rcases lset_sub hq with e | ⟨e1, e2, e3⟩
  · rw [Nat.zero_add] at e; rw [e]; exact h.2.2 _ List.mem_cons_self
  · refine h.2.2 q (List.mem_cons_of_mem _ (List.mem_filter.mpr ⟨e1, ?_⟩))
    rw [Nat.zero_add] at e2 e3
    simp only [Bool.and_eq_true, Bool.not_eq_true', beq_eq_false_iff_ne, ne_eq, Bool.and_eq_false_iff]
    refine ⟨e2, ?_⟩
    by_cases z : q.1 + 1 = i
    · exact Or.inr fun w => e3 ⟨z, w⟩
    · exact Or.inl z
theorem lvw2 {arr : Array Slot} {nL : Nat} {ls : List (Option Value)} {i : Nat} {v : Value} (h : lv_has arr nL ((i, v) :: (lvo 0 ls).filter (fun q => !(q.1 == i) && (!(q.1 == i + 1) && !(q.1 + 1 == i && q.2.category == 2))))) : lv_has arr nL (lvo 0 (lset2 ls i v)) := by
  refine ⟨h.1, h.2.1, fun q hq => ?_⟩
  rcases lset2_sub hq with e | ⟨e1, e2, e4, e3⟩
  · rw [Nat.zero_add] at e; rw [e]; exact h.2.2 _ List.mem_cons_self
  · refine h.2.2 q (List.mem_cons_of_mem _ (List.mem_filter.mpr ⟨e1, ?_⟩))
    rw [Nat.zero_add] at e2 e3 e4
    simp only [Bool.and_eq_true, Bool.not_eq_true', beq_eq_false_iff_ne, ne_eq, Bool.and_eq_false_iff]
    refine ⟨e2, e4, ?_⟩
    by_cases z : q.1 + 1 = i
    · exact Or.inr fun w => e3 ⟨z, w⟩
    · exact Or.inl z
/-- the machine at pc, with locals ls and stack st, in any heap that holds the world w, comes to its end -/
def V (E : Cx) (nL k n : Nat) (w : va_W) (pc : Nat) (ls : List (Option Value)) (st : List Value) : Prop :=
  match E with
  | (p, l, e, R, s, m, args, below, meth, c, Q, A, G) => ∀ (H : Heap) (locs : List Loc) (arr : Array Slot), va_P G.1 clsA w H → va_D A w → va_S A s.heap H locs → lv_has arr nL (lvo 0 ls) → W p l e R s m args below meth c H locs k n Q (F0 m pc arr st)
/-- what a method's walk has all through: the machine, its code, its own class, the tables' words, the room, the start state's tables -/
def CxOk (E : Cx) (own : String) (cc : ByteArray) (nL : Nat) (G : Gx) (rm : Room) : Prop :=
  match E with
  | (p, _, _, R, s, m, args, _, meth, c, _, A, G') => p.tables.exec = Jvm.exec ∧ c.code = cc ∧ c.maxLocals = nL ∧ s.vm.findClass own = some m.cls ∧ (∀ w ∈ lw_all, w.before args s = true) ∧ va_K G.1 clsA (tysA G) s ∧ (∀ q, s.heap.size ≤ q → A q) ∧ meth.locks = false ∧ R = rm ∧ G' = G ∧ G.2.2.1.WarmedH s.vm
def rmD (d : Nat) : Room := { frames := d, cells := 0, slots := 0, locals := 64 * d }
section VB
variable {E : Cx} {own : String} {cc : ByteArray} {nL k n : Nat} {G : Gx} {rm : Room} {w : va_W} {pc : Nat} {ls : List (Option Value)} {st : List Value}
theorem V_cs {k' n' : Nat} (h1 : k ≤ k') (h2 : n ≤ n') (K : V E nL k' n' w pc ls st) : V E nL k n w pc ls st := by
  obtain ⟨p, l, e, R, s, m, args, below, meth, c, Q, A, G'⟩ := E
  exact fun H locs arr hP hD hS hl => W.widen h1 h2 (K H locs arr hP hD hS hl)
theorem V_w {w' : va_W} (h : w = w') (K : V E nL k n w' pc ls st) : V E nL k n w pc ls st := h ▸ K
/-- fewer cells, fewer locals known -/
theorem V_sub {ls' : List (Option Value)} (h : ∀ q ∈ lvo 0 ls', q ∈ lvo 0 ls) (K : V E nL k n w pc ls' st) : V E nL k n w pc ls st := by
  obtain ⟨p, l, e, R, s, m, args, below, meth, c, Q, A, G'⟩ := E
  exact fun H locs arr hP hD hS hl => K H locs arr hP hD hS ⟨hl.1, hl.2.1, fun q hq => hl.2.2 q (h q hq)⟩
theorem r_topi {x : Int32} (K : ∀ y : Int32, y = x → V E nL k n w pc ls (.int y :: st)) : V E nL k n w pc ls (.int x :: st) := K x rfl
theorem r_topl {x : Int64} (K : ∀ y : Int64, y = x → V E nL k n w pc ls (.long y :: st)) : V E nL k n w pc ls (.long x :: st) := K x rfl
theorem r_iconst {i : Int} (v : Int32) (C : CxOk E own cc nL G rm) (hd : decode cc pc = .ok (.iconst i, 1)) (hv : Int32.ofInt i = v) (K : V E nL k n w (pc + 1) ls (.int v :: st)) : V E nL k n w pc ls (st) := by
  obtain ⟨p, l, e, R, s, m, args, below, meth, c, Q, A, G'⟩ := E
  exact fun H locs arr hP hD hS hl => lv_iconst C.1 C.2.1 hd hv (K H locs arr hP hD hS hl)
theorem r_bipush {i : Int} (v : Int32) (C : CxOk E own cc nL G rm) (hd : decode cc pc = .ok (.bipush i, 2)) (hv : (Int8.ofInt i).toInt32 = v) (K : V E nL k n w (pc + 2) ls (.int v :: st)) : V E nL k n w pc ls (st) := by
  obtain ⟨p, l, e, R, s, m, args, below, meth, c, Q, A, G'⟩ := E
  exact fun H locs arr hP hD hS hl => lv_bipush C.1 C.2.1 hd hv (K H locs arr hP hD hS hl)
theorem r_sipush {i : Int} (v : Int32) (C : CxOk E own cc nL G rm) (hd : decode cc pc = .ok (.sipush i, 3)) (hv : (Int16.ofInt i).toInt32 = v) (K : V E nL k n w (pc + 3) ls (.int v :: st)) : V E nL k n w pc ls (st) := by
  obtain ⟨p, l, e, R, s, m, args, below, meth, c, Q, A, G'⟩ := E
  exact fun H locs arr hP hD hS hl => lv_sipush C.1 C.2.1 hd hv (K H locs arr hP hD hS hl)
theorem r_lconst {i : Fin 2} (v : Int64) (C : CxOk E own cc nL G rm) (hd : decode cc pc = .ok (.lconst i, 1)) (hv : Int64.ofNat (i : Nat) = v) (K : V E nL k n w (pc + 1) ls (.long v :: st)) : V E nL k n w pc ls (st) := by
  obtain ⟨p, l, e, R, s, m, args, below, meth, c, Q, A, G'⟩ := E
  exact fun H locs arr hP hD hS hl => lv_lconst C.1 C.2.1 hd hv (K H locs arr hP hD hS hl)
theorem r_iload_n {j : Fin 4} {x : Int32} (C : CxOk E own cc nL G rm) (hd : decode cc pc = .ok (.iload_n j, 1)) (hk : ls[(j : Nat)]? = some (some (.int x))) (K : V E nL k n w (pc + 1) ls (.int x :: st)) : V E nL k n w pc ls (st) := by
  obtain ⟨p, l, e, R, s, m, args, below, meth, c, Q, A, G'⟩ := E
  exact fun H locs arr hP hD hS hl => lv_iload_n C.1 C.2.1 hd rfl (lvr hl hk) (K H locs arr hP hD hS hl)
theorem r_iload {i : Nat} {x : Int32} (C : CxOk E own cc nL G rm) (hd : decode cc pc = .ok (.iload i, 2)) (hk : ls[i]? = some (some (.int x))) (K : V E nL k n w (pc + 2) ls (.int x :: st)) : V E nL k n w pc ls (st) := by
  obtain ⟨p, l, e, R, s, m, args, below, meth, c, Q, A, G'⟩ := E
  exact fun H locs arr hP hD hS hl => lv_iload C.1 C.2.1 hd (lvr hl hk) (K H locs arr hP hD hS hl)
theorem r_istore_n {j : Fin 4} {x : Int32} (C : CxOk E own cc nL G rm) (hd : decode cc pc = .ok (.istore_n j, 1)) (hn : (j : Nat) < nL) (K : V E nL k n w (pc + 1) (lset ls j (.int x)) (st)) : V E nL k n w pc ls (.int x :: st) := by
  obtain ⟨p, l, e, R, s, m, args, below, meth, c, Q, A, G'⟩ := E
  exact fun H locs arr hP hD hS hl => lv_istore_n C.1 C.2.1 hd rfl hl hn rfl (fun arr hl => K H locs arr hP hD hS (lvw1 hl))
theorem r_istore {i : Nat} {x : Int32} (C : CxOk E own cc nL G rm) (hd : decode cc pc = .ok (.istore i, 2)) (hn : i < nL) (K : V E nL k n w (pc + 2) (lset ls i (.int x)) (st)) : V E nL k n w pc ls (.int x :: st) := by
  obtain ⟨p, l, e, R, s, m, args, below, meth, c, Q, A, G'⟩ := E
  exact fun H locs arr hP hD hS hl => lv_istore C.1 C.2.1 hd hl hn rfl (fun arr hl => K H locs arr hP hD hS (lvw1 hl))
theorem r_lload_n {j : Fin 4} {x : Int64} (C : CxOk E own cc nL G rm) (hd : decode cc pc = .ok (.lload_n j, 1)) (hk : ls[(j : Nat)]? = some (some (.long x))) (K : V E nL k n w (pc + 1) ls (.long x :: st)) : V E nL k n w pc ls (st) := by
  obtain ⟨p, l, e, R, s, m, args, below, meth, c, Q, A, G'⟩ := E
  exact fun H locs arr hP hD hS hl => lv_lload_n C.1 C.2.1 hd rfl (lvr hl hk) (K H locs arr hP hD hS hl)
theorem r_lload {i : Nat} {x : Int64} (C : CxOk E own cc nL G rm) (hd : decode cc pc = .ok (.lload i, 2)) (hk : ls[i]? = some (some (.long x))) (K : V E nL k n w (pc + 2) ls (.long x :: st)) : V E nL k n w pc ls (st) := by
  obtain ⟨p, l, e, R, s, m, args, below, meth, c, Q, A, G'⟩ := E
  exact fun H locs arr hP hD hS hl => lv_lload C.1 C.2.1 hd (lvr hl hk) (K H locs arr hP hD hS hl)
theorem r_lstore_n {j : Fin 4} {x : Int64} (C : CxOk E own cc nL G rm) (hd : decode cc pc = .ok (.lstore_n j, 1)) (hn : (j : Nat) + 1 < nL) (K : V E nL k n w (pc + 1) (lset2 ls j (.long x)) (st)) : V E nL k n w pc ls (.long x :: st) := by
  obtain ⟨p, l, e, R, s, m, args, below, meth, c, Q, A, G'⟩ := E
  exact fun H locs arr hP hD hS hl => lv_lstore_n C.1 C.2.1 hd rfl hl hn rfl (fun arr hl => K H locs arr hP hD hS (lvw2 hl))
theorem r_lstore {i : Nat} {x : Int64} (C : CxOk E own cc nL G rm) (hd : decode cc pc = .ok (.lstore i, 2)) (hn : i + 1 < nL) (K : V E nL k n w (pc + 2) (lset2 ls i (.long x)) (st)) : V E nL k n w pc ls (.long x :: st) := by
  obtain ⟨p, l, e, R, s, m, args, below, meth, c, Q, A, G'⟩ := E
  exact fun H locs arr hP hD hS hl => lv_lstore C.1 C.2.1 hd hl hn rfl (fun arr hl => K H locs arr hP hD hS (lvw2 hl))
theorem r_aload_n {j : Fin 4} {x : Nat} (C : CxOk E own cc nL G rm) (hd : decode cc pc = .ok (.aload_n j, 1)) (hk : ls[(j : Nat)]? = some (some (.ref x))) (K : V E nL k n w (pc + 1) ls (.ref x :: st)) : V E nL k n w pc ls (st) := by
  obtain ⟨p, l, e, R, s, m, args, below, meth, c, Q, A, G'⟩ := E
  exact fun H locs arr hP hD hS hl => lv_aload_n C.1 C.2.1 hd rfl (lvr hl hk) (K H locs arr hP hD hS hl)
theorem r_aload {i : Nat} {x : Nat} (C : CxOk E own cc nL G rm) (hd : decode cc pc = .ok (.aload i, 2)) (hk : ls[i]? = some (some (.ref x))) (K : V E nL k n w (pc + 2) ls (.ref x :: st)) : V E nL k n w pc ls (st) := by
  obtain ⟨p, l, e, R, s, m, args, below, meth, c, Q, A, G'⟩ := E
  exact fun H locs arr hP hD hS hl => lv_aload C.1 C.2.1 hd (lvr hl hk) (K H locs arr hP hD hS hl)
theorem r_astore_n {j : Fin 4} {x : Nat} (C : CxOk E own cc nL G rm) (hd : decode cc pc = .ok (.astore_n j, 1)) (hn : (j : Nat) < nL) (K : V E nL k n w (pc + 1) (lset ls j (.ref x)) (st)) : V E nL k n w pc ls (.ref x :: st) := by
  obtain ⟨p, l, e, R, s, m, args, below, meth, c, Q, A, G'⟩ := E
  exact fun H locs arr hP hD hS hl => lv_astore_n C.1 C.2.1 hd rfl hl hn rfl (fun arr hl => K H locs arr hP hD hS (lvw1 hl))
theorem r_astore {i : Nat} {x : Nat} (C : CxOk E own cc nL G rm) (hd : decode cc pc = .ok (.astore i, 2)) (hn : i < nL) (K : V E nL k n w (pc + 2) (lset ls i (.ref x)) (st)) : V E nL k n w pc ls (.ref x :: st) := by
  obtain ⟨p, l, e, R, s, m, args, below, meth, c, Q, A, G'⟩ := E
  exact fun H locs arr hP hD hS hl => lv_astore C.1 C.2.1 hd hl hn rfl (fun arr hl => K H locs arr hP hD hS (lvw1 hl))
theorem r_iadd {x y : Int32} (C : CxOk E own cc nL G rm) (hd : decode cc pc = .ok (.iadd, 1)) (K : V E nL k n w (pc + 1) ls (.int (x + y) :: st)) : V E nL k n w pc ls (.int y :: .int x :: st) := by
  obtain ⟨p, l, e, R, s, m, args, below, meth, c, Q, A, G'⟩ := E
  exact fun H locs arr hP hD hS hl => lv_iadd C.1 C.2.1 hd (K H locs arr hP hD hS hl)
theorem r_isub {x y : Int32} (C : CxOk E own cc nL G rm) (hd : decode cc pc = .ok (.isub, 1)) (K : V E nL k n w (pc + 1) ls (.int (x - y) :: st)) : V E nL k n w pc ls (.int y :: .int x :: st) := by
  obtain ⟨p, l, e, R, s, m, args, below, meth, c, Q, A, G'⟩ := E
  exact fun H locs arr hP hD hS hl => lv_isub C.1 C.2.1 hd (K H locs arr hP hD hS hl)
theorem r_imul {x y : Int32} (C : CxOk E own cc nL G rm) (hd : decode cc pc = .ok (.imul, 1)) (K : V E nL k n w (pc + 1) ls (.int (x * y) :: st)) : V E nL k n w pc ls (.int y :: .int x :: st) := by
  obtain ⟨p, l, e, R, s, m, args, below, meth, c, Q, A, G'⟩ := E
  exact fun H locs arr hP hD hS hl => lv_imul C.1 C.2.1 hd (K H locs arr hP hD hS hl)
theorem r_iand {x y : Int32} (C : CxOk E own cc nL G rm) (hd : decode cc pc = .ok (.iand, 1)) (K : V E nL k n w (pc + 1) ls (.int (x &&& y) :: st)) : V E nL k n w pc ls (.int y :: .int x :: st) := by
  obtain ⟨p, l, e, R, s, m, args, below, meth, c, Q, A, G'⟩ := E
  exact fun H locs arr hP hD hS hl => lv_iand C.1 C.2.1 hd (K H locs arr hP hD hS hl)
theorem r_ior {x y : Int32} (C : CxOk E own cc nL G rm) (hd : decode cc pc = .ok (.ior, 1)) (K : V E nL k n w (pc + 1) ls (.int (x ||| y) :: st)) : V E nL k n w pc ls (.int y :: .int x :: st) := by
  obtain ⟨p, l, e, R, s, m, args, below, meth, c, Q, A, G'⟩ := E
  exact fun H locs arr hP hD hS hl => lv_ior C.1 C.2.1 hd (K H locs arr hP hD hS hl)
theorem r_ixor {x y : Int32} (C : CxOk E own cc nL G rm) (hd : decode cc pc = .ok (.ixor, 1)) (K : V E nL k n w (pc + 1) ls (.int (x ^^^ y) :: st)) : V E nL k n w pc ls (.int y :: .int x :: st) := by
  obtain ⟨p, l, e, R, s, m, args, below, meth, c, Q, A, G'⟩ := E
  exact fun H locs arr hP hD hS hl => lv_ixor C.1 C.2.1 hd (K H locs arr hP hD hS hl)
theorem r_ishl {x y : Int32} (C : CxOk E own cc nL G rm) (hd : decode cc pc = .ok (.ishl, 1)) (K : V E nL k n w (pc + 1) ls (.int (x <<< (y &&& 31)) :: st)) : V E nL k n w pc ls (.int y :: .int x :: st) := by
  obtain ⟨p, l, e, R, s, m, args, below, meth, c, Q, A, G'⟩ := E
  exact fun H locs arr hP hD hS hl => lv_ishl C.1 C.2.1 hd (K H locs arr hP hD hS hl)
theorem r_ishr {x y : Int32} (C : CxOk E own cc nL G rm) (hd : decode cc pc = .ok (.ishr, 1)) (K : V E nL k n w (pc + 1) ls (.int (x >>> (y &&& 31)) :: st)) : V E nL k n w pc ls (.int y :: .int x :: st) := by
  obtain ⟨p, l, e, R, s, m, args, below, meth, c, Q, A, G'⟩ := E
  exact fun H locs arr hP hD hS hl => lv_ishr C.1 C.2.1 hd (K H locs arr hP hD hS hl)
theorem r_idiv {x y : Int32} (C : CxOk E own cc nL G rm) (hd : decode cc pc = .ok (.idiv, 1)) (hne : ¬ y = 0) (K : V E nL k n w (pc + 1) ls (.int (x / y) :: st)) : V E nL k n w pc ls (.int y :: .int x :: st) := by
  obtain ⟨p, l, e, R, s, m, args, below, meth, c, Q, A, G'⟩ := E
  exact fun H locs arr hP hD hS hl => lv_idiv C.1 C.2.1 hd hne (K H locs arr hP hD hS hl)
theorem r_irem {x y : Int32} (C : CxOk E own cc nL G rm) (hd : decode cc pc = .ok (.irem, 1)) (hne : ¬ y = 0) (K : V E nL k n w (pc + 1) ls (.int (x - x / y * y) :: st)) : V E nL k n w pc ls (.int y :: .int x :: st) := by
  obtain ⟨p, l, e, R, s, m, args, below, meth, c, Q, A, G'⟩ := E
  exact fun H locs arr hP hD hS hl => lv_irem C.1 C.2.1 hd hne (K H locs arr hP hD hS hl)
theorem r_ladd {x y : Int64} (C : CxOk E own cc nL G rm) (hd : decode cc pc = .ok (.ladd, 1)) (K : V E nL k n w (pc + 1) ls (.long (x + y) :: st)) : V E nL k n w pc ls (.long y :: .long x :: st) := by
  obtain ⟨p, l, e, R, s, m, args, below, meth, c, Q, A, G'⟩ := E
  exact fun H locs arr hP hD hS hl => lv_ladd C.1 C.2.1 hd (K H locs arr hP hD hS hl)
theorem r_lsub {x y : Int64} (C : CxOk E own cc nL G rm) (hd : decode cc pc = .ok (.lsub, 1)) (K : V E nL k n w (pc + 1) ls (.long (x - y) :: st)) : V E nL k n w pc ls (.long y :: .long x :: st) := by
  obtain ⟨p, l, e, R, s, m, args, below, meth, c, Q, A, G'⟩ := E
  exact fun H locs arr hP hD hS hl => lv_lsub C.1 C.2.1 hd (K H locs arr hP hD hS hl)
theorem r_lmul {x y : Int64} (C : CxOk E own cc nL G rm) (hd : decode cc pc = .ok (.lmul, 1)) (K : V E nL k n w (pc + 1) ls (.long (x * y) :: st)) : V E nL k n w pc ls (.long y :: .long x :: st) := by
  obtain ⟨p, l, e, R, s, m, args, below, meth, c, Q, A, G'⟩ := E
  exact fun H locs arr hP hD hS hl => lv_lmul C.1 C.2.1 hd (K H locs arr hP hD hS hl)
theorem r_land {x y : Int64} (C : CxOk E own cc nL G rm) (hd : decode cc pc = .ok (.land, 1)) (K : V E nL k n w (pc + 1) ls (.long (x &&& y) :: st)) : V E nL k n w pc ls (.long y :: .long x :: st) := by
  obtain ⟨p, l, e, R, s, m, args, below, meth, c, Q, A, G'⟩ := E
  exact fun H locs arr hP hD hS hl => lv_land C.1 C.2.1 hd (K H locs arr hP hD hS hl)
theorem r_ldiv {x y : Int64} (C : CxOk E own cc nL G rm) (hd : decode cc pc = .ok (.ldiv, 1)) (hne : ¬ y = 0) (K : V E nL k n w (pc + 1) ls (.long (x / y) :: st)) : V E nL k n w pc ls (.long y :: .long x :: st) := by
  obtain ⟨p, l, e, R, s, m, args, below, meth, c, Q, A, G'⟩ := E
  exact fun H locs arr hP hD hS hl => lv_ldiv C.1 C.2.1 hd hne (K H locs arr hP hD hS hl)
theorem r_lrem {x y : Int64} (C : CxOk E own cc nL G rm) (hd : decode cc pc = .ok (.lrem, 1)) (hne : ¬ y = 0) (K : V E nL k n w (pc + 1) ls (.long (x - x / y * y) :: st)) : V E nL k n w pc ls (.long y :: .long x :: st) := by
  obtain ⟨p, l, e, R, s, m, args, below, meth, c, Q, A, G'⟩ := E
  exact fun H locs arr hP hD hS hl => lv_lrem C.1 C.2.1 hd hne (K H locs arr hP hD hS hl)
theorem r_ineg {x : Int32} (C : CxOk E own cc nL G rm) (hd : decode cc pc = .ok (.ineg, 1)) (K : V E nL k n w (pc + 1) ls (.int (-x) :: st)) : V E nL k n w pc ls (.int x :: st) := by
  obtain ⟨p, l, e, R, s, m, args, below, meth, c, Q, A, G'⟩ := E
  exact fun H locs arr hP hD hS hl => lv_ineg C.1 C.2.1 hd (K H locs arr hP hD hS hl)
theorem r_i2l {x : Int32} (C : CxOk E own cc nL G rm) (hd : decode cc pc = .ok (.i2l, 1)) (K : V E nL k n w (pc + 1) ls (.long x.toInt64 :: st)) : V E nL k n w pc ls (.int x :: st) := by
  obtain ⟨p, l, e, R, s, m, args, below, meth, c, Q, A, G'⟩ := E
  exact fun H locs arr hP hD hS hl => lv_i2l C.1 C.2.1 hd rfl (K H locs arr hP hD hS hl)
theorem r_l2i {x : Int64} (C : CxOk E own cc nL G rm) (hd : decode cc pc = .ok (.l2i, 1)) (K : V E nL k n w (pc + 1) ls (.int x.toInt32 :: st)) : V E nL k n w pc ls (.long x :: st) := by
  obtain ⟨p, l, e, R, s, m, args, below, meth, c, Q, A, G'⟩ := E
  exact fun H locs arr hP hD hS hl => lv_l2i C.1 C.2.1 hd rfl (K H locs arr hP hD hS hl)
theorem r_i2b {x : Int32} (C : CxOk E own cc nL G rm) (hd : decode cc pc = .ok (.i2b, 1)) (K : V E nL k n w (pc + 1) ls (.int x.toInt8.toInt32 :: st)) : V E nL k n w pc ls (.int x :: st) := by
  obtain ⟨p, l, e, R, s, m, args, below, meth, c, Q, A, G'⟩ := E
  exact fun H locs arr hP hD hS hl => lv_i2b C.1 C.2.1 hd rfl (K H locs arr hP hD hS hl)
theorem r_iushr {x y : Int32} (C : CxOk E own cc nL G rm) (hd : decode cc pc = .ok (.iushr, 1)) (K : V E nL k n w (pc + 1) ls (.int (x.toUInt32 >>> (y.toUInt32 &&& Int32.toUInt32 31)).toInt32 :: st)) : V E nL k n w pc ls (.int y :: .int x :: st) := by
  obtain ⟨p, l, e, R, s, m, args, below, meth, c, Q, A, G'⟩ := E
  exact fun H locs arr hP hD hS hl => lv_iushr C.1 C.2.1 hd rfl (K H locs arr hP hD hS hl)
theorem r_lcmp {x y : Int64} (C : CxOk E own cc nL G rm) (hd : decode cc pc = .ok (.lcmp, 1)) (K : V E nL k n w (pc + 1) ls (.int (lg_cmp x y) :: st)) : V E nL k n w pc ls (.long y :: .long x :: st) := by
  obtain ⟨p, l, e, R, s, m, args, below, meth, c, Q, A, G'⟩ := E
  exact fun H locs arr hP hD hS hl => W.lcmp C.1 C.2.1 hd (K H locs arr hP hD hS hl)
theorem r_dup {a : Value} (C : CxOk E own cc nL G rm) (hd : decode cc pc = .ok (.dup, 1)) (ha : a.category = 1) (K : V E nL k n w (pc + 1) ls (a :: a :: st)) : V E nL k n w pc ls (a :: st) := by
  obtain ⟨p, l, e, R, s, m, args, below, meth, c, Q, A, G'⟩ := E
  exact fun H locs arr hP hD hS hl => lv_dup C.1 C.2.1 hd ha (K H locs arr hP hD hS hl)
theorem r_pop {a : Value} (C : CxOk E own cc nL G rm) (hd : decode cc pc = .ok (.pop, 1)) (ha : a.category = 1) (K : V E nL k n w (pc + 1) ls (st)) : V E nL k n w pc ls (a :: st) := by
  obtain ⟨p, l, e, R, s, m, args, below, meth, c, Q, A, G'⟩ := E
  exact fun H locs arr hP hD hS hl => lv_pop C.1 C.2.1 hd ha (K H locs arr hP hD hS hl)
theorem r_pop2_2 {a : Value} (C : CxOk E own cc nL G rm) (hd : decode cc pc = .ok (.pop2, 1)) (ha : a.category = 2) (K : V E nL k n w (pc + 1) ls (st)) : V E nL k n w pc ls (a :: st) := by
  obtain ⟨p, l, e, R, s, m, args, below, meth, c, Q, A, G'⟩ := E
  exact fun H locs arr hP hD hS hl => lv_pop2_2 C.1 C.2.1 hd ha (K H locs arr hP hD hS hl)
theorem r_dup2_11 {a b : Value} (C : CxOk E own cc nL G rm) (hd : decode cc pc = .ok (.dup2, 1)) (ha : a.category = 1) (hb : b.category = 1) (K : V E nL k n w (pc + 1) ls (a :: b :: a :: b :: st)) : V E nL k n w pc ls (a :: b :: st) := by
  obtain ⟨p, l, e, R, s, m, args, below, meth, c, Q, A, G'⟩ := E
  exact fun H locs arr hP hD hS hl => lv_dup2_11 C.1 C.2.1 hd ha hb (K H locs arr hP hD hS hl)
theorem r_dup_x1 {a b : Value} (C : CxOk E own cc nL G rm) (hd : decode cc pc = .ok (.dup_x1, 1)) (ha : a.category = 1) (hb : b.category = 1) (K : V E nL k n w (pc + 1) ls (a :: b :: a :: st)) : V E nL k n w pc ls (a :: b :: st) := by
  obtain ⟨p, l, e, R, s, m, args, below, meth, c, Q, A, G'⟩ := E
  exact fun H locs arr hP hD hS hl => lv_dup_x1 C.1 C.2.1 hd ha hb (K H locs arr hP hD hS hl)
theorem r_ldc {i : Nat} {v : Int32} (C : CxOk E own cc nL G rm) (hd : decode cc pc = .ok (.ldc i, 2)) (hc : Jvm.Cond.constant own i v ∈ lw_all) (K : V E nL k n w (pc + 2) ls (.int v :: st)) : V E nL k n w pc ls (st) := by
  obtain ⟨p, l, e, R, s, m, args, below, meth, c, Q, A, G'⟩ := E
  exact fun H locs arr hP hD hS hl => lv_ldc C.1 C.2.1 C.2.2.2.1 (C.2.2.2.2.1 _ hc) hd (K H locs arr hP hD hS hl)
theorem r_ldc2 {i : Nat} {v : Int64} (C : CxOk E own cc nL G rm) (hd : decode cc pc = .ok (.ldc2_w i, 3)) (hc : Jvm.Cond.constantLong own i v ∈ lw_all) (K : V E nL k n w (pc + 3) ls (.long v :: st)) : V E nL k n w pc ls (st) := by
  obtain ⟨p, l, e, R, s, m, args, below, meth, c, Q, A, G'⟩ := E
  exact fun H locs arr hP hD hS hl => lv_ldc2 C.1 C.2.1 C.2.2.2.1 (C.2.2.2.2.1 _ hc) hd (K H locs arr hP hD hS hl)
theorem r_iinc {i : Nat} {j : Int} {x : Int32} (v : Int32) (C : CxOk E own cc nL G rm) (hd : decode cc pc = .ok (.iinc i j, 3)) (hk : ls[i]? = some (some (.int x))) (hv : x + Int32.ofInt j = v) (hn : i < nL) (K : V E nL k n w (pc + 3) (lset ls i (.int v)) st) : V E nL k n w pc ls st := by
  obtain ⟨p, l, e, R, s, m, args, below, meth, c, Q, A, G'⟩ := E
  intro H locs arr hP hD hS hl
  obtain ⟨kk, hkk⟩ := List.getElem?_of_mem (lvo_at (j := 0) hk)
  rw [Nat.zero_add] at hkk
  exact lv_iinc C.1 C.2.1 hd hl hkk hv hn rfl (fun arr hl => K H locs arr hP hD hS (lvw1 hl))
theorem r_if_eq {x : Int32} {off : Int} (tgt : Nat) (C : CxOk E own cc nL G rm) (hd : decode cc pc = .ok (.ifCond .eq off, 3)) (ht : (pc : Int) + off = (tgt : Int)) (Kt : x = 0 → V E nL k n w tgt ls st) (Kf : ¬ x = 0 → V E nL k n w (pc + 3) ls st) : V E nL k n w pc ls (.int x :: st) := by
  obtain ⟨p, l, e, R, s, m, args, below, meth, c, Q, A, G'⟩ := E
  exact fun H locs arr hP hD hS hl => lv_if_eq C.1 C.2.1 hd ht (fun h => Kt h H locs arr hP hD hS hl) (fun h => Kf h H locs arr hP hD hS hl)
theorem r_if_ne {x : Int32} {off : Int} (tgt : Nat) (C : CxOk E own cc nL G rm) (hd : decode cc pc = .ok (.ifCond .ne off, 3)) (ht : (pc : Int) + off = (tgt : Int)) (Kt : ¬ x = 0 → V E nL k n w tgt ls st) (Kf : x = 0 → V E nL k n w (pc + 3) ls st) : V E nL k n w pc ls (.int x :: st) := by
  obtain ⟨p, l, e, R, s, m, args, below, meth, c, Q, A, G'⟩ := E
  exact fun H locs arr hP hD hS hl => lv_if_ne C.1 C.2.1 hd ht (fun h => Kt h H locs arr hP hD hS hl) (fun h => Kf h H locs arr hP hD hS hl)
theorem r_if_lt {x : Int32} {off : Int} (tgt : Nat) (C : CxOk E own cc nL G rm) (hd : decode cc pc = .ok (.ifCond .lt off, 3)) (ht : (pc : Int) + off = (tgt : Int)) (Kt : x < 0 → V E nL k n w tgt ls st) (Kf : ¬ x < 0 → V E nL k n w (pc + 3) ls st) : V E nL k n w pc ls (.int x :: st) := by
  obtain ⟨p, l, e, R, s, m, args, below, meth, c, Q, A, G'⟩ := E
  exact fun H locs arr hP hD hS hl => lv_if_lt C.1 C.2.1 hd ht (fun h => Kt h H locs arr hP hD hS hl) (fun h => Kf h H locs arr hP hD hS hl)
theorem r_if_ge {x : Int32} {off : Int} (tgt : Nat) (C : CxOk E own cc nL G rm) (hd : decode cc pc = .ok (.ifCond .ge off, 3)) (ht : (pc : Int) + off = (tgt : Int)) (Kt : 0 ≤ x → V E nL k n w tgt ls st) (Kf : ¬ 0 ≤ x → V E nL k n w (pc + 3) ls st) : V E nL k n w pc ls (.int x :: st) := by
  obtain ⟨p, l, e, R, s, m, args, below, meth, c, Q, A, G'⟩ := E
  exact fun H locs arr hP hD hS hl => lv_if_ge C.1 C.2.1 hd ht (fun h => Kt h H locs arr hP hD hS hl) (fun h => Kf h H locs arr hP hD hS hl)
theorem r_if_gt {x : Int32} {off : Int} (tgt : Nat) (C : CxOk E own cc nL G rm) (hd : decode cc pc = .ok (.ifCond .gt off, 3)) (ht : (pc : Int) + off = (tgt : Int)) (Kt : 0 < x → V E nL k n w tgt ls st) (Kf : ¬ 0 < x → V E nL k n w (pc + 3) ls st) : V E nL k n w pc ls (.int x :: st) := by
  obtain ⟨p, l, e, R, s, m, args, below, meth, c, Q, A, G'⟩ := E
  exact fun H locs arr hP hD hS hl => lv_if_gt C.1 C.2.1 hd ht (fun h => Kt h H locs arr hP hD hS hl) (fun h => Kf h H locs arr hP hD hS hl)
theorem r_if_le {x : Int32} {off : Int} (tgt : Nat) (C : CxOk E own cc nL G rm) (hd : decode cc pc = .ok (.ifCond .le off, 3)) (ht : (pc : Int) + off = (tgt : Int)) (Kt : x ≤ 0 → V E nL k n w tgt ls st) (Kf : ¬ x ≤ 0 → V E nL k n w (pc + 3) ls st) : V E nL k n w pc ls (.int x :: st) := by
  obtain ⟨p, l, e, R, s, m, args, below, meth, c, Q, A, G'⟩ := E
  exact fun H locs arr hP hD hS hl => lv_if_le C.1 C.2.1 hd ht (fun h => Kt h H locs arr hP hD hS hl) (fun h => Kf h H locs arr hP hD hS hl)
theorem r_icmp_eq {x y : Int32} {off : Int} (tgt : Nat) (C : CxOk E own cc nL G rm) (hd : decode cc pc = .ok (.if_icmp .eq off, 3)) (ht : (pc : Int) + off = (tgt : Int)) (Kt : x = y → V E nL k n w tgt ls st) (Kf : ¬ x = y → V E nL k n w (pc + 3) ls st) : V E nL k n w pc ls (.int y :: .int x :: st) := by
  obtain ⟨p, l, e, R, s, m, args, below, meth, c, Q, A, G'⟩ := E
  exact fun H locs arr hP hD hS hl => lv_icmp_eq C.1 C.2.1 hd ht (fun h => Kt h H locs arr hP hD hS hl) (fun h => Kf h H locs arr hP hD hS hl)
theorem r_icmp_ne {x y : Int32} {off : Int} (tgt : Nat) (C : CxOk E own cc nL G rm) (hd : decode cc pc = .ok (.if_icmp .ne off, 3)) (ht : (pc : Int) + off = (tgt : Int)) (Kt : ¬ x = y → V E nL k n w tgt ls st) (Kf : x = y → V E nL k n w (pc + 3) ls st) : V E nL k n w pc ls (.int y :: .int x :: st) := by
  obtain ⟨p, l, e, R, s, m, args, below, meth, c, Q, A, G'⟩ := E
  exact fun H locs arr hP hD hS hl => lv_icmp_ne C.1 C.2.1 hd ht (fun h => Kt h H locs arr hP hD hS hl) (fun h => Kf h H locs arr hP hD hS hl)
theorem r_icmp_lt {x y : Int32} {off : Int} (tgt : Nat) (C : CxOk E own cc nL G rm) (hd : decode cc pc = .ok (.if_icmp .lt off, 3)) (ht : (pc : Int) + off = (tgt : Int)) (Kt : x < y → V E nL k n w tgt ls st) (Kf : ¬ x < y → V E nL k n w (pc + 3) ls st) : V E nL k n w pc ls (.int y :: .int x :: st) := by
  obtain ⟨p, l, e, R, s, m, args, below, meth, c, Q, A, G'⟩ := E
  exact fun H locs arr hP hD hS hl => lv_icmp_lt C.1 C.2.1 hd ht (fun h => Kt h H locs arr hP hD hS hl) (fun h => Kf h H locs arr hP hD hS hl)
theorem r_icmp_ge {x y : Int32} {off : Int} (tgt : Nat) (C : CxOk E own cc nL G rm) (hd : decode cc pc = .ok (.if_icmp .ge off, 3)) (ht : (pc : Int) + off = (tgt : Int)) (Kt : y ≤ x → V E nL k n w tgt ls st) (Kf : ¬ y ≤ x → V E nL k n w (pc + 3) ls st) : V E nL k n w pc ls (.int y :: .int x :: st) := by
  obtain ⟨p, l, e, R, s, m, args, below, meth, c, Q, A, G'⟩ := E
  exact fun H locs arr hP hD hS hl => lv_icmp_ge C.1 C.2.1 hd ht (fun h => Kt h H locs arr hP hD hS hl) (fun h => Kf h H locs arr hP hD hS hl)
theorem r_icmp_gt {x y : Int32} {off : Int} (tgt : Nat) (C : CxOk E own cc nL G rm) (hd : decode cc pc = .ok (.if_icmp .gt off, 3)) (ht : (pc : Int) + off = (tgt : Int)) (Kt : y < x → V E nL k n w tgt ls st) (Kf : ¬ y < x → V E nL k n w (pc + 3) ls st) : V E nL k n w pc ls (.int y :: .int x :: st) := by
  obtain ⟨p, l, e, R, s, m, args, below, meth, c, Q, A, G'⟩ := E
  exact fun H locs arr hP hD hS hl => lv_icmp_gt C.1 C.2.1 hd ht (fun h => Kt h H locs arr hP hD hS hl) (fun h => Kf h H locs arr hP hD hS hl)
theorem r_icmp_le {x y : Int32} {off : Int} (tgt : Nat) (C : CxOk E own cc nL G rm) (hd : decode cc pc = .ok (.if_icmp .le off, 3)) (ht : (pc : Int) + off = (tgt : Int)) (Kt : x ≤ y → V E nL k n w tgt ls st) (Kf : ¬ x ≤ y → V E nL k n w (pc + 3) ls st) : V E nL k n w pc ls (.int y :: .int x :: st) := by
  obtain ⟨p, l, e, R, s, m, args, below, meth, c, Q, A, G'⟩ := E
  exact fun H locs arr hP hD hS hl => lv_icmp_le C.1 C.2.1 hd ht (fun h => Kt h H locs arr hP hD hS hl) (fun h => Kf h H locs arr hP hD hS hl)
theorem r_goto {off : Int} (tgt : Nat) (C : CxOk E own cc nL G rm) (hd : decode cc pc = .ok (.goto off, 3)) (ht : (pc : Int) + off = (tgt : Int)) (K : V E nL k n w tgt ls st) : V E nL k n w pc ls st := by
  obtain ⟨p, l, e, R, s, m, args, below, meth, c, Q, A, G'⟩ := E
  exact fun H locs arr hP hD hS hl => lv_goto C.1 C.2.1 hd ht (K H locs arr hP hD hS hl)
theorem r_tblIn {dflt lo hi : Int} {offs : Array Int} {len : Nat} {x : Int32} {off : Int} (tgt : Nat) (C : CxOk E own cc nL G rm) (hd : decode cc pc = .ok (.tableswitch dflt lo hi offs, len)) (h1 : ¬ x.toInt < lo) (h2 : ¬ hi < x.toInt) (ho : offs[(x.toInt - lo).toNat]? = some off) (ht : (pc : Int) + off = (tgt : Int)) (K : V E nL k n w tgt ls st) : V E nL k n w pc ls (.int x :: st) := by
  obtain ⟨p, l, e, R, s, m, args, below, meth, c, Q, A, G'⟩ := E
  exact fun H locs arr hP hD hS hl => lv_tableIn C.1 C.2.1 hd h1 h2 ho ht (K H locs arr hP hD hS hl)
theorem r_tblOut {dflt lo hi : Int} {offs : Array Int} {len : Nat} {x : Int32} (tgt : Nat) (C : CxOk E own cc nL G rm) (hd : decode cc pc = .ok (.tableswitch dflt lo hi offs, len)) (h : x.toInt < lo ∨ hi < x.toInt) (ht : (pc : Int) + dflt = (tgt : Int)) (K : V E nL k n w tgt ls st) : V E nL k n w pc ls (.int x :: st) := by
  obtain ⟨p, l, e, R, s, m, args, below, meth, c, Q, A, G'⟩ := E
  exact fun H locs arr hP hD hS hl => lv_tableOut C.1 C.2.1 hd h ht (K H locs arr hP hD hS hl)
theorem r_lookup {dflt : Int} {ps : Array (Int × Int)} {len : Nat} {x : Int32} {off : Int} (tgt : Nat) (C : CxOk E own cc nL G rm) (hd : decode cc pc = .ok (.lookupswitch dflt ps, len)) (hp : (ps.toList.zip (ps.toList.drop 1)).all (fun (a, next) => a.1 < next.1) = true) (ho : Op.lookupswitch.offset ps.toList dflt x.toInt = off) (ht : (pc : Int) + off = (tgt : Int)) (K : V E nL k n w tgt ls st) : V E nL k n w pc ls (.int x :: st) := by
  obtain ⟨p, l, e, R, s, m, args, below, meth, c, Q, A, G'⟩ := E
  exact fun H locs arr hP hD hS hl => lv_lookup C.1 C.2.1 hd hp ho ht (K H locs arr hP hD hS hl)
end VB
