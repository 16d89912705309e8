
set_option maxRecDepth 100000
/-- the start's tables: what holds of the fixed start state in G -/
def Base (G : Gx) : Prop := va_K G.1 clsA (tysA G) G.2.2.1 ∧ (∀ w ∈ lw_tbl, w.before #[Value.ref G.2.2.2] G.2.2.1 = true) ∧ (Jvm.Cond.and given_1 narrow_1).before #[Value.ref G.2.2.2] G.2.2.1 = true
def Cpre {σ : Type} (G : Gx) (wf : σ → va_W) (S : σ) (sz : Nat) : State → Prop := fun U => U.heap.size = sz ∧ va_P G.1 clsA (wf S) U.heap ∧ G.2.2.1.WarmedH U.vm ∧ va_D (fun _ => True) (wf S)
def Cpost {σ : Type} (G : Gx) (wf : σ → va_W) (A : Nat → Prop) : σ → State → Prop := fun S' t => va_P G.1 clsA (wf S') t.heap ∧ va_D A (wf S')
/-- a method that can be called through an object of the class C that declares it -/
def Mv (C : String) (y : MethodName) (b : ByteArray) (L : Nat) (rt : Option FieldType) (n : Nat) : Prop := Cond.instanceMethod y ∈ lw_all ∧ Cond.selects C y y ∈ lw_all ∧ Cond.initialized C ∈ lw_all ∧ Cond.code y b L rt ∈ lw_all ∧ (y.cls = C ∧ y.cls ≠ "java/lang/invoke/MethodHandle" ∧ y.cls ≠ "java/lang/invoke/VarHandle" ∧ (parseMethodDescriptor y.desc).map (fun d => d.parameters.length) = some n)
/-- a static method -/
def Ms (y : MethodName) (b : ByteArray) (L : Nat) (rt : Option FieldType) (n : Nat) : Prop := Cond.static y ∈ lw_all ∧ Cond.initialized y.cls ∈ lw_all ∧ Cond.code y b L rt ∈ lw_all ∧ (y.cls ≠ "java/lang/invoke/MethodHandle" ∧ y.cls ≠ "java/lang/invoke/VarHandle" ∧ (parseMethodDescriptor y.desc).map (fun d => d.parameters.length) = some n)
theorem Cpre_blind {σ : Type} {G : Gx} {wf : σ → va_W} {S : σ} {sz : Nat} {av : List Value} : FrameBlind (va_Pc av (Cpre G wf S sz)) := fun a U g mk q => by
  obtain ⟨q0, q1, qP, qK, qD⟩ := q
  exact ⟨q0, q1, qP, qK, qD⟩
def nf {α : Type} (f : Nat → α → α) : Nat → α → α
  | 0, a => a
  | n + 1, a => f n (nf f n a)
/-- a counting loop: its head, and what one turn does -/
theorem V_for {α : Type} (P : Nat → α → Prop) (f : Nat → α → α) (a0 : α) (n : Nat) (hs : ∀ i, i < n → P (i + 1) (nf f (i + 1) a0) → P i (nf f i a0)) (hx : P n (nf f n a0)) : P 0 a0 := by
  have key : ∀ j, j ≤ n → P (n - j) (nf f (n - j) a0) := by
    intro j
    induction j with
    | zero => intro _; exact hx
    | succ j ih =>
      intro hj
      have h1 := ih (by omega)
      refine hs (n - (j + 1)) (by omega) ?_
      rw [show n - (j + 1) + 1 = n - j by omega]
      exact h1
  have h := key n (Nat.le_refl n)
  rw [Nat.sub_self] at h
  exact h
theorem va_P0 {D : va_G} {cl : List vw_C} {H : Heap} : va_P D cl [] H := fun k q h => by cases h
theorem va_D0 {A : Nat → Prop} : va_D A [] := ⟨fun i j p q h => (by cases h), fun k q h => (by cases h)⟩
theorem va_same {G : Gx} {A : Nat → Prop} {w wc : va_W} {H H1 : Heap} (hP : va_P G.1 clsA w H) (hD : va_D A w) (hsub : ∀ x ∈ wc, x ∈ w) (hk : ∀ q : Nat, q < H.size → ¬ va_A wc H.size q → H1[q]? = H[q]?) (hP1 : va_P G.1 clsA wc H1) : va_P G.1 clsA w H1 := by
  intro i q hq
  have hl := (hP i q hq).lt
  by_cases h : va_A wc H.size q.1
  · rcases h with ⟨j, e, h⟩ | h
    · obtain ⟨i2, h2⟩ := List.getElem?_of_mem (hsub _ (List.mem_of_getElem? h))
      have e1 := hD.1 i i2 q (q.1, e) hq h2 rfl
      subst e1
      rw [hq] at h2
      have e2 : q = (q.1, e) := Option.some.inj h2
      rw [e2]
      exact hP1 j _ h
    · omega
  · exact (hP i q hq).kept (hk q.1 hl h)

def Ci {σ : Type} (G : Gx) (y : MethodName) (b : ByteArray) (L : Nat) (rt : FieldType) (rm : Room) (wf : σ → va_W) (S : σ) (av : List Value) (post : Int32 → σ → Prop) : Prop := ∀ (l : Launch) (sz : Nat), Met l y (ws_ y b L (some rt)) rm (va_Pc av (Cpre G wf S sz)) (va_Qi post (Cpost G wf (va_A (wf S) sz)) (va_A (wf S) sz)) rm.cells rm.slots (va_A (wf S) sz)
/-- what a walk's end must show -/
def Ri {σ : Type} (E : Cx) (rt : FieldType) (rm : Room) (wf : σ → va_W) (post : Int32 → σ → Prop) : Prop := match E with
  | (_, _, _, _, s, _, args, below, meth, _, Q, A, G) => meth.sig.returnType = (some rt) ∧ Q = MQ below (va_Qi post (Cpost G wf A) A) args s rm.cells rm.slots A
theorem Ci.of {σ : Type} {G : Gx} {y : MethodName} {b : ByteArray} {L : Nat} {rt : FieldType} {rm : Room} {wf : σ → va_W} {S : σ} {av : List Value} {post : Int32 → σ → Prop} (B : Base G) (ls : List (Option Value)) (hy : plainName y.cls = true) (hls : lvo 0 ls = lv_args 0 av) (hn : (lg_sl av).length ≤ L) (body : ∀ E : Cx, CxOk E y.cls b L G rm → Ri E rt rm wf post → V E L 0 0 (wf S) 0 ls []) : Ci G y b L rt rm wf S av post := by
  intro l sz
  refine Met.ofW (cc := b) (maxL := L) (ret := (some rt)) hy rfl ?_
  intro p e s m args below meth c s₁ BB hml hv
  obtain ⟨rfl, hsz, hP, hK, hD0⟩ := hv
  have hts := atoms_spec (ws := ws_ y b L (some rt)) BB.pre
  have hts : ∀ w ∈ lw_all, w.before _ s = true := fun w h => hts w (List.mem_cons_of_mem _ h)
  have hown : s.vm.findClass y.cls = some m.cls := findClass_of_methodNamed BB.named
  subst hsz
  have hl := lv_entry av (n := L) hn
  rw [lg_entry_eq]
  generalize (lg_sl av ++ List.replicate (L - (lg_sl av).length) Slot.unset).toArray = arr at hl ⊢
  exact body (p, l, e, _, s, m, av.toArray, below, meth, c, _, va_A (wf S) s.heap.size, G) ⟨BB.exec, BB.bytes, hml, hown, hts, va_K.moved hK.alike B.1, fun q h => Or.inr h, BB.notSynchronized, rfl, rfl, hK⟩ ⟨BB.returns, rfl⟩ s.heap [] arr hP hD0.self va_S.rf (by rw [hls]; exact hl)
def Cl {σ : Type} (G : Gx) (y : MethodName) (b : ByteArray) (L : Nat) (rm : Room) (wf : σ → va_W) (S : σ) (av : List Value) (post : Int64 → σ → Prop) : Prop := ∀ (l : Launch) (sz : Nat), Met l y (ws_ y b L (some .long)) rm (va_Pc av (Cpre G wf S sz)) (va_Ql post (Cpost G wf (va_A (wf S) sz)) (va_A (wf S) sz)) rm.cells rm.slots (va_A (wf S) sz)
/-- what a walk's end must show -/
def Rl {σ : Type} (E : Cx) (rm : Room) (wf : σ → va_W) (post : Int64 → σ → Prop) : Prop := match E with
  | (_, _, _, _, s, _, args, below, meth, _, Q, A, G) => meth.sig.returnType = (some .long) ∧ Q = MQ below (va_Ql post (Cpost G wf A) A) args s rm.cells rm.slots A
theorem Cl.of {σ : Type} {G : Gx} {y : MethodName} {b : ByteArray} {L : Nat} {rm : Room} {wf : σ → va_W} {S : σ} {av : List Value} {post : Int64 → σ → Prop} (B : Base G) (ls : List (Option Value)) (hy : plainName y.cls = true) (hls : lvo 0 ls = lv_args 0 av) (hn : (lg_sl av).length ≤ L) (body : ∀ E : Cx, CxOk E y.cls b L G rm → Rl E rm wf post → V E L 0 0 (wf S) 0 ls []) : Cl G y b L rm wf S av post := by
  intro l sz
  refine Met.ofW (cc := b) (maxL := L) (ret := (some .long)) hy rfl ?_
  intro p e s m args below meth c s₁ BB hml hv
  obtain ⟨rfl, hsz, hP, hK, hD0⟩ := hv
  have hts := atoms_spec (ws := ws_ y b L (some .long)) BB.pre
  have hts : ∀ w ∈ lw_all, w.before _ s = true := fun w h => hts w (List.mem_cons_of_mem _ h)
  have hown : s.vm.findClass y.cls = some m.cls := findClass_of_methodNamed BB.named
  subst hsz
  have hl := lv_entry av (n := L) hn
  rw [lg_entry_eq]
  generalize (lg_sl av ++ List.replicate (L - (lg_sl av).length) Slot.unset).toArray = arr at hl ⊢
  exact body (p, l, e, _, s, m, av.toArray, below, meth, c, _, va_A (wf S) s.heap.size, G) ⟨BB.exec, BB.bytes, hml, hown, hts, va_K.moved hK.alike B.1, fun q h => Or.inr h, BB.notSynchronized, rfl, rfl, hK⟩ ⟨BB.returns, rfl⟩ s.heap [] arr hP hD0.self va_S.rf (by rw [hls]; exact hl)
def Cv {σ : Type} (G : Gx) (y : MethodName) (b : ByteArray) (L : Nat) (rm : Room) (wf : σ → va_W) (S : σ) (av : List Value) (post : σ → Prop) : Prop := ∀ (l : Launch) (sz : Nat), Met l y (ws_ y b L none) rm (va_Pc av (Cpre G wf S sz)) (va_Qv post (Cpost G wf (va_A (wf S) sz)) (va_A (wf S) sz)) rm.cells rm.slots (va_A (wf S) sz)
/-- what a walk's end must show -/
def Rv {σ : Type} (E : Cx) (rm : Room) (wf : σ → va_W) (post : σ → Prop) : Prop := match E with
  | (_, _, _, _, s, _, args, below, meth, _, Q, A, G) => meth.sig.returnType = none ∧ Q = MQ below (va_Qv post (Cpost G wf A) A) args s rm.cells rm.slots A
theorem Cv.of {σ : Type} {G : Gx} {y : MethodName} {b : ByteArray} {L : Nat} {rm : Room} {wf : σ → va_W} {S : σ} {av : List Value} {post : σ → Prop} (B : Base G) (ls : List (Option Value)) (hy : plainName y.cls = true) (hls : lvo 0 ls = lv_args 0 av) (hn : (lg_sl av).length ≤ L) (body : ∀ E : Cx, CxOk E y.cls b L G rm → Rv E rm wf post → V E L 0 0 (wf S) 0 ls []) : Cv G y b L rm wf S av post := by
  intro l sz
  refine Met.ofW (cc := b) (maxL := L) (ret := none) hy rfl ?_
  intro p e s m args below meth c s₁ BB hml hv
  obtain ⟨rfl, hsz, hP, hK, hD0⟩ := hv
  have hts := atoms_spec (ws := ws_ y b L none) BB.pre
  have hts : ∀ w ∈ lw_all, w.before _ s = true := fun w h => hts w (List.mem_cons_of_mem _ h)
  have hown : s.vm.findClass y.cls = some m.cls := findClass_of_methodNamed BB.named
  subst hsz
  have hl := lv_entry av (n := L) hn
  rw [lg_entry_eq]
  generalize (lg_sl av ++ List.replicate (L - (lg_sl av).length) Slot.unset).toArray = arr at hl ⊢
  exact body (p, l, e, _, s, m, av.toArray, below, meth, c, _, va_A (wf S) s.heap.size, G) ⟨BB.exec, BB.bytes, hml, hown, hts, va_K.moved hK.alike B.1, fun q h => Or.inr h, BB.notSynchronized, rfl, rfl, hK⟩ ⟨BB.returns, rfl⟩ s.heap [] arr hP hD0.self va_S.rf (by rw [hls]; exact hl)
section VC
variable {E : Cx} {own : String} {cc : ByteArray} {nL k n : Nat} {G : Gx} {rm : Room} {w : va_W} {pc : Nat} {ls : List (Option Value)} {st : List Value} {σ : Type} {wf : σ → va_W} {S : σ}
theorem r_iret {post : Int32 → σ → Prop} {r : Int32} (C : CxOk E own cc nL G rm) (hR : Ri E .int rm wf post) (hd : decode cc pc = .ok (.ireturn, 1)) (hk : k ≤ rm.cells) (hn : n ≤ rm.slots) (hp : post r S) : V E nL k n (wf S) pc ls [.int r] := by
  obtain ⟨p, l, e, R, s, m, args, below, meth, c, Q, A, G'⟩ := E
  obtain ⟨hr, hQ⟩ := hR
  subst hQ
  have hlk : meth.locks = false := C.2.2.2.2.2.2.2.1
  exact fun H locs arr hP hD hS hl => W.widen hk hn (W.iret C.1 C.2.1 hr (fun t ht hW => ⟨⟨r, S, rfl, hp, by rw [ht]; exact hP, hD⟩, hS.F ht⟩) hS.2.2 hd hlk)
theorem r_zret {post : Int32 → σ → Prop} {r : Int32} {rt : FieldType} (C : CxOk E own cc nL G rm) (hR : Ri E rt rm wf post) (hd : decode cc pc = .ok (.ireturn, 1)) (hz : narrow rt (.int r) = .int r) (hk : k ≤ rm.cells) (hn : n ≤ rm.slots) (hp : post r S) : V E nL k n (wf S) pc ls [.int r] := by
  obtain ⟨p, l, e, R, s, m, args, below, meth, c, Q, A, G'⟩ := E
  obtain ⟨hr, hQ⟩ := hR
  subst hQ
  have hlk : meth.locks = false := C.2.2.2.2.2.2.2.1
  exact fun H locs arr hP hD hS hl => W.widen hk hn (W.zret C.1 C.2.1 hr hz (fun t ht hW => ⟨⟨r, S, rfl, hp, by rw [ht]; exact hP, hD⟩, hS.F ht⟩) hS.2.2 hd hlk)
theorem r_lret {post : Int64 → σ → Prop} {r : Int64} (C : CxOk E own cc nL G rm) (hR : Rl E rm wf post) (hd : decode cc pc = .ok (.lreturn, 1)) (hk : k ≤ rm.cells) (hn : n ≤ rm.slots) (hp : post r S) : V E nL k n (wf S) pc ls [.long r] := by
  obtain ⟨p, l, e, R, s, m, args, below, meth, c, Q, A, G'⟩ := E
  obtain ⟨hr, hQ⟩ := hR
  subst hQ
  have hlk : meth.locks = false := C.2.2.2.2.2.2.2.1
  exact fun H locs arr hP hD hS hl => W.widen hk hn (W.lret C.1 C.2.1 hr (fun t ht hW => ⟨⟨r, S, rfl, hp, by rw [ht]; exact hP, hD⟩, hS.F ht⟩) hS.2.2 hd hlk)
theorem r_vret {post : σ → Prop} (C : CxOk E own cc nL G rm) (hR : Rv E rm wf post) (hd : decode cc pc = .ok (.return_, 1)) (hk : k ≤ rm.cells) (hn : n ≤ rm.slots) (hp : post S) : V E nL k n (wf S) pc ls [] := by
  obtain ⟨p, l, e, R, s, m, args, below, meth, c, Q, A, G'⟩ := E
  obtain ⟨hr, hQ⟩ := hR
  subst hQ
  have hlk : meth.locks = false := C.2.2.2.2.2.2.2.1
  exact fun H locs arr hP hD hS hl => W.widen hk hn (W.vret C.1 C.2.1 hr (fun t ht hW => ⟨⟨S, rfl, hp, by rw [ht]; exact hP, hD⟩, hS.F ht⟩) hS.2.2 hd hlk)
theorem r_callVi {y : MethodName} {b : ByteArray} {Ly idx ci o : Nat} {rt : FieldType} {rmy : Room} {post : Int32 → σ → Prop} {As : List Value} {Cn : String} {T : u_T} {N : Nat} {fs : List Value} {st0 : List Value} (C : CxOk E own cc nL G rm) (h : Ci G y b Ly rt rmy wf S (.ref o :: As) post) (hl : Cond.methodLink own idx y ∈ lw_all) (hm : Mv Cn y b Ly (some rt) As.length) (hrc : (wf S)[0]? = some (o, .inr (ci, fs))) (hcl : clsA[ci]? = some (Cn, T, N)) (hst : st0 = As.reverse ++ .ref o :: st) (hd : decode cc pc = .ok (.invokevirtual idx, 3)) (hroom : rmy.frames + 1 ≤ rm.frames ∧ 8 + (Ly + 11) + rmy.locals ≤ rm.locals) (hcs : k + rmy.cells ≤ rm.cells ∧ n + rmy.slots ≤ rm.slots) (hcat : (st.map fun v => v.category).sum ≤ 8) (K : ∀ (r : Int32) (S' : σ), post r S' → V E nL (k + rmy.cells) (n + rmy.slots) (wf S') (pc + 3) ls (.int r :: st)) : V E nL k n (wf S) pc ls st0 := by
  obtain ⟨p, l, e, R, s, m, args, below, meth, c, Q, A, G'⟩ := E
  obtain ⟨hx, hb, hml, hown, hts, hK, hA, hlk, rfl, rfl, hW0⟩ := C
  subst hst
  intro H locs arr hP hD hS hl'
  have hF : ∀ q, va_A (wf S) H.size q → A q := fun q h => by
    rcases h with ⟨j, e, h⟩ | h
    · exact hD.2 j (q, e) h
    · exact hA q (Nat.le_trans hS.1 h)
  have hl := hl'
  refine va_calli (va_runV (As := As) (rest := st) ⟨hx, hb, hml, hown, hts⟩ (h l H.size) (cwV (C := Cn) As.length hts (lw_V ‹_› hm.1 hm.2.1 hm.2.2.1 hm.2.2.2.1) rfl rfl rfl hm.2.2.2.2 hroom) ⟨Cpre_blind, va_recv hK hP (ci := ci) (q0 := 0) hcl hrc, fun U hU hW => ⟨rfl, by rw [hU], by rw [hU]; exact hP, State.WarmedH.trans hW0 hW, hD.weaken (fun _ _ _ _ => trivial)⟩⟩ rfl rfl hl.1 rfl (lv_room hcat) hd hcs) hS (fun q _ h => hF q h) hF (fun r u t H1 locs ht hvm hw1 hB hz1 hk1 hS => ?_)
  exact K r u hw1 H1 locs arr (by rw [← ht]; exact hB.1) (hB.2.weaken (fun _ _ _ h => hF _ h)) hS hl
theorem r_callSi {y : MethodName} {b : ByteArray} {Ly idx : Nat} {rt : FieldType} {rmy : Room} {post : Int32 → Unit → Prop} {As : List Value} {st0 : List Value} (C : CxOk E own cc nL G rm) (h : Ci G y b Ly rt rmy (fun _ : Unit => []) () As post) (hl : Cond.methodLink own idx y ∈ lw_all) (hm : Ms y b Ly (some rt) As.length) (hst : st0 = As.reverse ++ st) (hd : decode cc pc = .ok (.invokestatic idx, 3)) (hroom : rmy.frames + 1 ≤ rm.frames ∧ 8 + (Ly + 11) + rmy.locals ≤ rm.locals) (hcs : k + rmy.cells ≤ rm.cells ∧ n + rmy.slots ≤ rm.slots) (hcat : (st.map fun v => v.category).sum ≤ 8) (K : ∀ (r : Int32), post r () → V E nL (k + rmy.cells) (n + rmy.slots) w (pc + 3) ls (.int r :: st)) : V E nL k n w pc ls st0 := by
  obtain ⟨p, l, e, R, s, m, args, below, meth, c, Q, A, G'⟩ := E
  obtain ⟨hx, hb, hml, hown, hts, hK, hA, hlk, rfl, rfl, hW0⟩ := C
  subst hst
  intro H locs arr hP hD hS hl'
  have hF : ∀ q, va_A [] H.size q → A q := fun q h => by
    rcases h with ⟨j, e, h⟩ | h
    · cases h
    · exact hA q (Nat.le_trans hS.1 h)
  have hl := hl'
  refine va_calli (va_runS (As := As) (rest := st) ⟨hx, hb, hml, hown, hts⟩ (h l H.size) (va_cwS As.length hts (lw_S ‹_› hm.1 hm.2.1 hm.2.2.1) rfl rfl rfl hm.2.2.2 hroom) ⟨Cpre_blind, fun U hU hW => ⟨rfl, by rw [hU], va_P0, State.WarmedH.trans hW0 hW, va_D0⟩⟩ rfl rfl hl.1 rfl (lv_room hcat) hd hcs) hS (fun q _ h => hF q h) hF (fun r u t H1 locs ht hvm hw1 hB hz1 hk1 hS => ?_)
  exact K r hw1 H1 locs arr (va_same hP hD (wc := []) (fun _ h => by cases h) hk1 va_P0) hD hS hl
theorem r_callVl {y : MethodName} {b : ByteArray} {Ly idx ci o : Nat} {rmy : Room} {post : Int64 → σ → Prop} {As : List Value} {Cn : String} {T : u_T} {N : Nat} {fs : List Value} {st0 : List Value} (C : CxOk E own cc nL G rm) (h : Cl G y b Ly rmy wf S (.ref o :: As) post) (hl : Cond.methodLink own idx y ∈ lw_all) (hm : Mv Cn y b Ly (some .long) As.length) (hrc : (wf S)[0]? = some (o, .inr (ci, fs))) (hcl : clsA[ci]? = some (Cn, T, N)) (hst : st0 = As.reverse ++ .ref o :: st) (hd : decode cc pc = .ok (.invokevirtual idx, 3)) (hroom : rmy.frames + 1 ≤ rm.frames ∧ 8 + (Ly + 11) + rmy.locals ≤ rm.locals) (hcs : k + rmy.cells ≤ rm.cells ∧ n + rmy.slots ≤ rm.slots) (hcat : (st.map fun v => v.category).sum ≤ 8) (K : ∀ (r : Int64) (S' : σ), post r S' → V E nL (k + rmy.cells) (n + rmy.slots) (wf S') (pc + 3) ls (.long r :: st)) : V E nL k n (wf S) pc ls st0 := by
  obtain ⟨p, l, e, R, s, m, args, below, meth, c, Q, A, G'⟩ := E
  obtain ⟨hx, hb, hml, hown, hts, hK, hA, hlk, rfl, rfl, hW0⟩ := C
  subst hst
  intro H locs arr hP hD hS hl'
  have hF : ∀ q, va_A (wf S) H.size q → A q := fun q h => by
    rcases h with ⟨j, e, h⟩ | h
    · exact hD.2 j (q, e) h
    · exact hA q (Nat.le_trans hS.1 h)
  have hl := hl'
  refine va_calll (va_runV (As := As) (rest := st) ⟨hx, hb, hml, hown, hts⟩ (h l H.size) (cwV (C := Cn) As.length hts (lw_V ‹_› hm.1 hm.2.1 hm.2.2.1 hm.2.2.2.1) rfl rfl rfl hm.2.2.2.2 hroom) ⟨Cpre_blind, va_recv hK hP (ci := ci) (q0 := 0) hcl hrc, fun U hU hW => ⟨rfl, by rw [hU], by rw [hU]; exact hP, State.WarmedH.trans hW0 hW, hD.weaken (fun _ _ _ _ => trivial)⟩⟩ rfl rfl hl.1 rfl (lv_room hcat) hd hcs) hS (fun q _ h => hF q h) hF (fun r u t H1 locs ht hvm hw1 hB hz1 hk1 hS => ?_)
  exact K r u hw1 H1 locs arr (by rw [← ht]; exact hB.1) (hB.2.weaken (fun _ _ _ h => hF _ h)) hS hl
theorem r_callSl {y : MethodName} {b : ByteArray} {Ly idx : Nat} {rmy : Room} {post : Int64 → Unit → Prop} {As : List Value} {st0 : List Value} (C : CxOk E own cc nL G rm) (h : Cl G y b Ly rmy (fun _ : Unit => []) () As post) (hl : Cond.methodLink own idx y ∈ lw_all) (hm : Ms y b Ly (some .long) As.length) (hst : st0 = As.reverse ++ st) (hd : decode cc pc = .ok (.invokestatic idx, 3)) (hroom : rmy.frames + 1 ≤ rm.frames ∧ 8 + (Ly + 11) + rmy.locals ≤ rm.locals) (hcs : k + rmy.cells ≤ rm.cells ∧ n + rmy.slots ≤ rm.slots) (hcat : (st.map fun v => v.category).sum ≤ 8) (K : ∀ (r : Int64), post r () → V E nL (k + rmy.cells) (n + rmy.slots) w (pc + 3) ls (.long r :: st)) : V E nL k n w pc ls st0 := by
  obtain ⟨p, l, e, R, s, m, args, below, meth, c, Q, A, G'⟩ := E
  obtain ⟨hx, hb, hml, hown, hts, hK, hA, hlk, rfl, rfl, hW0⟩ := C
  subst hst
  intro H locs arr hP hD hS hl'
  have hF : ∀ q, va_A [] H.size q → A q := fun q h => by
    rcases h with ⟨j, e, h⟩ | h
    · cases h
    · exact hA q (Nat.le_trans hS.1 h)
  have hl := hl'
  refine va_calll (va_runS (As := As) (rest := st) ⟨hx, hb, hml, hown, hts⟩ (h l H.size) (va_cwS As.length hts (lw_S ‹_› hm.1 hm.2.1 hm.2.2.1) rfl rfl rfl hm.2.2.2 hroom) ⟨Cpre_blind, fun U hU hW => ⟨rfl, by rw [hU], va_P0, State.WarmedH.trans hW0 hW, va_D0⟩⟩ rfl rfl hl.1 rfl (lv_room hcat) hd hcs) hS (fun q _ h => hF q h) hF (fun r u t H1 locs ht hvm hw1 hB hz1 hk1 hS => ?_)
  exact K r hw1 H1 locs arr (va_same hP hD (wc := []) (fun _ h => by cases h) hk1 va_P0) hD hS hl
theorem r_callVv {y : MethodName} {b : ByteArray} {Ly idx ci o : Nat} {rmy : Room} {post : σ → Prop} {As : List Value} {Cn : String} {T : u_T} {N : Nat} {fs : List Value} {st0 : List Value} (C : CxOk E own cc nL G rm) (h : Cv G y b Ly rmy wf S (.ref o :: As) post) (hl : Cond.methodLink own idx y ∈ lw_all) (hm : Mv Cn y b Ly none As.length) (hrc : (wf S)[0]? = some (o, .inr (ci, fs))) (hcl : clsA[ci]? = some (Cn, T, N)) (hst : st0 = As.reverse ++ .ref o :: st) (hd : decode cc pc = .ok (.invokevirtual idx, 3)) (hroom : rmy.frames + 1 ≤ rm.frames ∧ 8 + (Ly + 11) + rmy.locals ≤ rm.locals) (hcs : k + rmy.cells ≤ rm.cells ∧ n + rmy.slots ≤ rm.slots) (hcat : (st.map fun v => v.category).sum ≤ 8) (K : ∀ (S' : σ), post S' → V E nL (k + rmy.cells) (n + rmy.slots) (wf S') (pc + 3) ls st) : V E nL k n (wf S) pc ls st0 := by
  obtain ⟨p, l, e, R, s, m, args, below, meth, c, Q, A, G'⟩ := E
  obtain ⟨hx, hb, hml, hown, hts, hK, hA, hlk, rfl, rfl, hW0⟩ := C
  subst hst
  intro H locs arr hP hD hS hl'
  have hF : ∀ q, va_A (wf S) H.size q → A q := fun q h => by
    rcases h with ⟨j, e, h⟩ | h
    · exact hD.2 j (q, e) h
    · exact hA q (Nat.le_trans hS.1 h)
  have hl := hl'
  refine va_callv (va_runV (As := As) (rest := st) ⟨hx, hb, hml, hown, hts⟩ (h l H.size) (cwV (C := Cn) As.length hts (lw_V ‹_› hm.1 hm.2.1 hm.2.2.1 hm.2.2.2.1) rfl rfl rfl hm.2.2.2.2 hroom) ⟨Cpre_blind, va_recv hK hP (ci := ci) (q0 := 0) hcl hrc, fun U hU hW => ⟨rfl, by rw [hU], by rw [hU]; exact hP, State.WarmedH.trans hW0 hW, hD.weaken (fun _ _ _ _ => trivial)⟩⟩ rfl rfl hl.1 rfl (lv_room hcat) hd hcs) hS (fun q _ h => hF q h) hF (fun u t H1 locs ht hvm hw1 hB hz1 hk1 hS => ?_)
  exact K u hw1 H1 locs arr (by rw [← ht]; exact hB.1) (hB.2.weaken (fun _ _ _ h => hF _ h)) hS hl
theorem r_callSv {y : MethodName} {b : ByteArray} {Ly idx : Nat} {rmy : Room} {post : Unit → Prop} {As : List Value} {st0 : List Value} (C : CxOk E own cc nL G rm) (h : Cv G y b Ly rmy (fun _ : Unit => []) () As post) (hl : Cond.methodLink own idx y ∈ lw_all) (hm : Ms y b Ly none As.length) (hst : st0 = As.reverse ++ st) (hd : decode cc pc = .ok (.invokestatic idx, 3)) (hroom : rmy.frames + 1 ≤ rm.frames ∧ 8 + (Ly + 11) + rmy.locals ≤ rm.locals) (hcs : k + rmy.cells ≤ rm.cells ∧ n + rmy.slots ≤ rm.slots) (hcat : (st.map fun v => v.category).sum ≤ 8) (K : post () → V E nL (k + rmy.cells) (n + rmy.slots) w (pc + 3) ls st) : V E nL k n w pc ls st0 := by
  obtain ⟨p, l, e, R, s, m, args, below, meth, c, Q, A, G'⟩ := E
  obtain ⟨hx, hb, hml, hown, hts, hK, hA, hlk, rfl, rfl, hW0⟩ := C
  subst hst
  intro H locs arr hP hD hS hl'
  have hF : ∀ q, va_A [] H.size q → A q := fun q h => by
    rcases h with ⟨j, e, h⟩ | h
    · cases h
    · exact hA q (Nat.le_trans hS.1 h)
  have hl := hl'
  refine va_callv (va_runS (As := As) (rest := st) ⟨hx, hb, hml, hown, hts⟩ (h l H.size) (va_cwS As.length hts (lw_S ‹_› hm.1 hm.2.1 hm.2.2.1) rfl rfl rfl hm.2.2.2 hroom) ⟨Cpre_blind, fun U hU hW => ⟨rfl, by rw [hU], va_P0, State.WarmedH.trans hW0 hW, va_D0⟩⟩ rfl rfl hl.1 rfl (lv_room hcat) hd hcs) hS (fun q _ h => hF q h) hF (fun u t H1 locs ht hvm hw1 hB hz1 hk1 hS => ?_)
  exact K hw1 H1 locs arr (va_same hP hD (wc := []) (fun _ h => by cases h) hk1 va_P0) hD hS hl
end VC
