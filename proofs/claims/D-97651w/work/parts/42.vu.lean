
set_option maxRecDepth 100000
/-- the words of a virtual call that names x, found in owner, on an object of class Cn, which runs y: at every state of the run -/
def Wu (G : Gx) (own : String) (idx : Nat) (Cn owner : String) (x y : MethodName) : Prop := ∀ (args : Array Value) (s : State), (∀ w ∈ lw_all, w.before args s = true) → G.2.2.1.WarmedH s.vm → (Cond.methodLink own idx x).before args s = true ∧ (Cond.sameMethod x.cls owner x.name x.desc).before args s = true ∧ va_Decl s ⟨owner, x.name, x.desc⟩ ∧ (Cond.selects Cn x y).before args s = true
theorem Wu.of {G : Gx} {own : String} {idx : Nat} {Cn owner : String} {x y : MethodName} {b0 : ByteArray} {m0 : Nat} {r0 : Option FieldType} (h1 : Cond.methodLink own idx x ∈ lw_all) (h2 : Cond.sameMethod x.cls owner x.name x.desc ∈ lw_all) (h3 : Cond.instanceMethod ⟨owner, x.name, x.desc⟩ ∈ lw_all) (h4 : Cond.code ⟨owner, x.name, x.desc⟩ b0 m0 r0 ∈ lw_all) (h5 : Cond.selects Cn x y ∈ lw_all) : Wu G own idx Cn owner x y := fun args s hts _ => ⟨hts _ h1, hts _ h2, va_Decl.of (hts _ h3) (hts _ h4), hts _ h5⟩
theorem va_Psub {D : va_G} {w wc : va_W} {H : Heap} (hP : va_P D clsA w H) (hsub : ∀ x ∈ wc, x ∈ w) : va_P D clsA wc H := fun k q h => by
  obtain ⟨i, hi⟩ := List.getElem?_of_mem (hsub q (List.mem_of_getElem? h))
  exact hP i q hi
theorem va_D1 {x : Nat × va_E} : va_D (fun _ => True) [x] := by
  refine ⟨fun i j p q hi hj _ => ?_, fun k q h => trivial⟩
  have h1 := (List.getElem?_eq_some_iff.mp hi).1
  have h2 := (List.getElem?_eq_some_iff.mp hj).1
  simp only [List.length_cons, List.length_nil] at h1 h2
  omega
section VU
variable {E : Cx} {own : String} {cc : ByteArray} {nL k n : Nat} {G : Gx} {rm : Room} {w : va_W} {pc : Nat} {ls : List (Option Value)} {st : List Value}
theorem r_callUi {x y : MethodName} {b : ByteArray} {Ly idx ci o : Nat} {rt : FieldType} {rmy : Room} {post : Int32 → Unit → Prop} {As : List Value} {Cn owner : String} {T : u_T} {N : Nat} {fs : List Value} {st0 : List Value} (C : CxOk E own cc nL G rm) (h : Ci G y b Ly rt rmy (fun _ : Unit => [(o, .inr (ci, fs))]) () (.ref o :: As) post) (hw : Wu G own idx Cn owner x y) (hi : Cond.instanceMethod y ∈ lw_all) (hin : Cond.initialized y.cls ∈ lw_all) (hc : Cond.code y b Ly (some rt) ∈ lw_all) (hdx : owner ≠ "java/lang/invoke/MethodHandle" ∧ owner ≠ "java/lang/invoke/VarHandle" ∧ (parseMethodDescriptor x.desc).map (fun d => d.parameters.length) = some As.length) (hrc : (o, .inr (ci, fs)) ∈ w) (hcl : clsA[ci]? = some (Cn, T, N)) (hst : st0 = As.reverse ++ .ref o :: st) (hd : decode cc pc = .ok (.invokevirtual idx, 3)) (hroom : rmy.frames + 1 ≤ rm.frames ∧ 8 + (Ly + 11) + rmy.locals ≤ rm.locals) (hcs : k + rmy.cells ≤ rm.cells ∧ n + rmy.slots ≤ rm.slots) (hcat : (st.map fun v => v.category).sum ≤ 8) (K : ∀ r : Int32, post r () → V E nL (k + rmy.cells) (n + rmy.slots) w (pc + 3) ls (.int r :: st)) : V E nL k n w pc ls st0 := by
  obtain ⟨p, l, e, R, s, m, args, below, meth, c, Q, A, G'⟩ := E
  obtain ⟨hx, hb, hml, hown, hts, hK, hA, hlk, rfl, rfl, hW0⟩ := C
  subst hst
  intro H locs arr hP hD hS hl'
  have hsub : ∀ z ∈ [((o, .inr (ci, fs)) : Nat × va_E)], z ∈ w := fun z hz => by rw [List.mem_singleton.mp hz]; exact hrc
  have hF : ∀ q, va_A [((o, .inr (ci, fs)) : Nat × va_E)] H.size q → A q := fun q h => by
    rcases h with ⟨j, e, h⟩ | h
    · obtain ⟨i, hi⟩ := List.getElem?_of_mem (hsub _ (List.mem_of_getElem? h))
      exact hD.2 i (q, e) hi
    · exact hA q (Nat.le_trans hS.1 h)
  have hl := hl'
  have hP1 := va_Psub hP hsub
  obtain ⟨w1, w2, w3, w4⟩ := hw args s hts hW0
  have cu : va_CU R s args own Cn owner idx x y b Ly (some rt) (ws_ y b Ly (some rt)) rmy rmy.cells rmy.slots As.length := ⟨⟨rfl, rfl, hroom.1, hroom.2, pay_in hts (lw_meth hc), List.mem_cons_self⟩, hts _ hc, hts _ hin, ⟨hdx.1, hdx.2.1⟩, fun sig hs => by
    have h2 := hdx.2.2
    rw [hs] at h2
    exact (Option.some.inj h2).symm, w1, w2, w3, w4, hts _ hi⟩
  refine va_calli (va_runU (As := As) (rest := st) ⟨hx, hb, hml, hown, hts⟩ (h l H.size) cu ⟨Cpre_blind, va_recv hK hP1 (ci := ci) (q0 := 0) hcl rfl, fun U hU hW => ⟨rfl, by rw [hU], by rw [hU]; exact hP1, State.WarmedH.trans hW0 hW, va_D1⟩⟩ rfl rfl hl.1 rfl (lv_room hcat) hd hcs) hS (fun q _ h => hF q h) hF (fun r u t H1 locs ht hvm hw1 hB hz1 hk1 hS => ?_)
  exact K r hw1 H1 locs arr (va_same hP hD hsub hk1 (by rw [← ht]; exact hB.1)) hD hS hl
theorem r_callSUi {y : MethodName} {b : ByteArray} {Ly idx ci o : Nat} {rt : FieldType} {rmy : Room} {post : Int32 → Unit → Prop} {As : List Value} {Cn : String} {T : u_T} {N : Nat} {fs : List Value} {st0 : List Value} (C : CxOk E own cc nL G rm) (h : Ci G y b Ly rt rmy (fun _ : Unit => [(o, .inr (ci, fs))]) () (.ref o :: As) post) (h1 : Cond.methodLink own idx y ∈ lw_all) (h2 : Cond.sameMethod y.cls y.cls y.name y.desc ∈ lw_all) (h3 : Cond.superclass own y.cls ∈ lw_all) (hi : Cond.instanceMethod y ∈ lw_all) (hin : Cond.initialized y.cls ∈ lw_all) (hc : Cond.code y b Ly (some rt) ∈ lw_all) (hdx : y.name ≠ "<init>" ∧ (parseMethodDescriptor y.desc).map (fun d => d.parameters.length) = some As.length) (hrc : (o, .inr (ci, fs)) ∈ w) (hcl : clsA[ci]? = some (Cn, T, N)) (hst : st0 = As.reverse ++ .ref o :: st) (hd : decode cc pc = .ok (.invokespecial idx, 3)) (hroom : rmy.frames + 1 ≤ rm.frames ∧ 8 + (Ly + 11) + rmy.locals ≤ rm.locals) (hcs : k + rmy.cells ≤ rm.cells ∧ n + rmy.slots ≤ rm.slots) (hcat : (st.map fun v => v.category).sum ≤ 8) (K : ∀ r : Int32, post r () → V E nL (k + rmy.cells) (n + rmy.slots) w (pc + 3) ls (.int r :: st)) : V E nL k n w pc ls st0 := by
  obtain ⟨p, l, e, R, s, m, args, below, meth, c, Q, A, G'⟩ := E
  obtain ⟨hx, hb, hml, hown, hts, hK, hA, hlk, rfl, rfl, hW0⟩ := C
  subst hst
  intro H locs arr hP hD hS hl'
  have hsub : ∀ z ∈ [((o, .inr (ci, fs)) : Nat × va_E)], z ∈ w := fun z hz => by rw [List.mem_singleton.mp hz]; exact hrc
  have hF : ∀ q, va_A [((o, .inr (ci, fs)) : Nat × va_E)] H.size q → A q := fun q h => by
    rcases h with ⟨j, e, h⟩ | h
    · obtain ⟨i, hi⟩ := List.getElem?_of_mem (hsub _ (List.mem_of_getElem? h))
      exact hD.2 i (q, e) hi
    · exact hA q (Nat.le_trans hS.1 h)
  have hl := hl'
  have hP1 := va_Psub hP hsub
  have hrv := va_recv hK hP1 (ci := ci) (q0 := 0) hcl rfl
  have cu : va_CS R s args own idx y b Ly (some rt) (ws_ y b Ly (some rt)) rmy rmy.cells rmy.slots As.length := ⟨⟨rfl, rfl, hroom.1, hroom.2, pay_in hts (lw_meth hc), List.mem_cons_self⟩, hts _ h1, hts _ h2, hts _ h3, hts _ hi, hts _ hin, hts _ hc, hdx.1, fun sig hs => by
    have h2 := hdx.2
    rw [hs] at h2
    exact (Option.some.inj h2).symm⟩
  refine va_calli (va_runSU (hK.1 ci _ hcl).2 (As := As) (rest := st) ⟨hx, hb, hml, hown, hts⟩ (h l H.size) cu ⟨Cpre_blind, hrv, fun U hU hW => ⟨rfl, by rw [hU], by rw [hU]; exact hP1, State.WarmedH.trans hW0 hW, va_D1⟩⟩ rfl rfl hl.1 rfl (lv_room hcat) hd hcs) hS (fun q _ h => hF q h) hF (fun r u t H1 locs ht hvm hw1 hB hz1 hk1 hS => ?_)
  exact K r hw1 H1 locs arr (va_same hP hD hsub hk1 (by rw [← ht]; exact hB.1)) hD hS hl
end VU
