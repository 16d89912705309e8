
set_option maxRecDepth 100000
/-- the call's choice at a receiver of class c: whatever waits behind it is asked of m -/
def PicksM (e : Env) (c : ClassId) (r m : MethodId) (vm : Vm) : Prop := ∀ (Q : Selection → Jvm.Pre) (E : Jvm.CtlPost) (d : Bool) (acts : List Action) (s : State), s.vm = vm → (Jvm.Sem.wp (Op.invokeinterface.selectVirtual c r) Q E e d acts s ↔ Q (.method m) d acts s)
/-- the default's own place in the table, as the word asks it -/
def NearB (vm : Vm) (c : ClassId) (n d : String) (m : MethodId) : Bool := match nearestHeld vm c n d with
  | some (_, .default x) => decide (x = m)
  | some (_, .thrower _) => false
  | _ => true
theorem dm_picks {e : Env} {vm : Vm} {c : ClassId} {r m : MethodId} {rm mm : Method} (hs : selectMethod e.platform vm c r = .method m) (hr : vm.method? r = some rm) (hm : vm.method? m = some mm) (hn : NearB vm c rm.name rm.desc m = true) : PicksM e c r m vm := by
  intro Q E d acts s hv
  subst hv
  obtain ⟨mk, hmk, -⟩ : ∃ k, s.vm.classes[m.cls]? = some k ∧ k.methods[m.idx]? = some mm := by
    simpa [Vm.method?, Option.bind_eq_some_iff] using hm
  unfold NearB at hn
  cases hi : mk.isInterface <;> cases hp : e.platform.privateHidesDefault
  · simp [Op.invokeinterface.selectVirtual, hr, Op.selectFor_method hs hm, hmk, hi]
  · simp [Op.invokeinterface.selectVirtual, hr, Op.selectFor_method hs hm, hmk, hi]
  · simp [Op.invokeinterface.selectVirtual, hr, Op.selectFor_method hs hm, hmk, hi, hp]
  · split at hn
    · rename_i k x he
      simp only [decide_eq_true_eq] at hn
      subst hn
      simp [Op.invokeinterface.selectVirtual, hr, Op.selectFor_method hs hm, hmk, hi, hp, he]
    · cases hn
    · rename_i h1 h2
      cases he : nearestHeld s.vm c rm.name rm.desc with
      | none => simp [Op.invokeinterface.selectVirtual, hr, Op.selectFor_method hs hm, hmk, hi, hp, he]
      | some q =>
        obtain ⟨k, q⟩ := q
        cases q with
        | nothing => simp [Op.invokeinterface.selectVirtual, hr, Op.selectFor_method hs hm, hmk, hi, hp, he]
        | default x => exact absurd he (h1 k x)
        | thrower b => exact absurd he (h2 k b)

section DM
theorem dm_wp {Q : Unit → Pre} {E : CtlPost} {e : Env} {d : Bool} {acts : List Action} {s : State} {f : JFrame} {index a : Nat} {r m : MethodId} {c' : ClassId} {k k' : Class} {rm mm : Method} {vs rest : List Value} {cell : Cell} (hs : s.topJava?.isSome) (hnamed : namesResolved s.vm f.method.cls index c') (hk' : s.vm.classes[c']? = some k') (hclass : k'.isInterface = false) (hr : s.vm.methodReady f.method.cls index r) (hk : s.vm.classes[r.cls]? = some k) (hrm : s.vm.method? r = some rm) (hpoly : signaturePolymorphic k rm = false) (hstatic : rm.isStatic = false) (hlen : vs.length = rm.sig.parameters.length) (hstack : f.stack = vs.reverse ++ .ref a :: rest) (hcell : s.heap[a]? = some cell) (hobj : ∀ c, cell.vm ≠ .statics c) (hpick : PicksM e cell.cls r m s.vm) (hm : s.vm.method? m = some mm) (habs : mm.isAbstract = false) : wp (invokevirtual.sem index) Q E e d acts (s.setTop f) ↔ E (.invoke m (.ref a :: vs).toArray) acts (s.setTop { f with stack := rest }) := by
  obtain ⟨kc, cf, ci, n, h1, h2, h3, h4⟩ := hnamed
  have hpk := fun Q' d' ac' => hpick Q' E d' ac' (s.setTop { f with stack := rest }) rfl
  have h0 : ∀ Q' : ClassId → Pre, wp (Jvm.refClassAt index) Q' E e d acts (s.setTop f) ↔ Q' c' d acts (s.setTop f) := fun Q' => by
    rcases h3 with h | h <;> simp [Jvm.refClassAt, Jvm.constantAt, State.method?_setTop f hs, h1, h2, h, W.resolveClassAt_ready (State.method?_setTop f hs) h4]
  unfold invokevirtual.sem
  simp only [wp_bind', h0, W.theClass, State.vm_setTop, hk', Option.some.injEq, exists_eq_left', W.ite, hclass, Bool.false_eq_true, if_false, wp_pure', W.resolveMethodAt_ready (State.method?_setTop f hs) hr, W.theMethod, hrm, Seam.isPolymorphic, hk, hpoly, hstatic, Jvm.popArgs, ← hlen, popN_top hs hstack]
  simp [hs, hcell, hobj, hpk, hm, habs]

/-- a method that pushes 0 and hands it back (nothing is asked of its class' initialisation: the frame is walked here) -/
theorem dm_zero {p : Program} {l : Launch} {e : Env} {R : Room} {s : State} {args : Array Value} {below : List Frame} {y : MethodName} {bytes : ByteArray} {W : Nat} (hexec : p.tables.exec = Jvm.exec) (hpl : plainName y.cls = true) (hcode : (Cond.code y bytes 1 (some .int)).before args s = true) (h0 : decode bytes 0 = .ok (.iconst 0, 1)) (h1 : decode bytes 1 = .ok (.ireturn, 1)) (hfr : 1 ≤ R.frames) (hlo : W + 12 ≤ R.locals) : Back l R p e below s args y 3 W (fun _ a => ∃ b, a = #[.ref b]) (fun A _ v B => v = some (.int 0) ∧ B = A) := by
  intro m meth c A g ig mk a X hg hsize hdg hW hn hp
  obtain ⟨b, rfl⟩ := hp
  obtain ⟨U, Ls, c0, s0⟩ := A
  dsimp only [Pt.U, Pt.locs, Pt.cells, Pt.slots] at X hn ⊢
  have hcw : (Cond.code y bytes 1 (some .int)).before #[] U = true := word_at X.warmed (Or.inl (by first | rfl | simp [Cond.onTables, Cond.keeps, Cond.steady])) hcode
  obtain ⟨my, cy, hm, hc, hby, hml, hrt, hlk, hrest⟩ := Cond.code_spec hn hcw
  subst hby
  subst hg
  have h := X.here
  have hplm : U.plainMethod mk := State.plainMethod.of_name fun k hk => by
    obtain ⟨k', hk', hnm⟩ := className_of_methodNamed hn
    cases hk.symm.trans hk'
    rw [hnm]
    exact hpl
  refine ⟨some (.int 0), (U, Ls, c0, s0), X, ⟨rfl, rfl⟩, ?_⟩
  rw [doInvoke_enter h.top [] hm hc hlk (X.notFull hsize hfr (by rw [hml]; omega))]
  have hA : At ((U.setTop g).pushFrame (.java (entryFrame mk #[.ref b] cy.maxLocals))) mk cy below := h.enter #[.ref b] hm hc hplm
  have hfs := frames_entered (g := g) h.top (.java (entryFrame mk #[.ref b] cy.maxLocals))
  have hback := setFrames_entered (s := U) (g := g) h.top (.java (entryFrame mk #[.ref b] cy.maxLocals))
  have hcg : ((U.setTop g).pushFrame (.java (entryFrame mk #[.ref b] cy.maxLocals))).code? g.method = some c := by
    have := h.code
    rw [State.code?_eq] at this ⊢
    simpa [State.pushFrame, State.setFrames] using this
  have hm1 : ((U.setTop g).pushFrame (.java (entryFrame mk #[.ref b] cy.maxLocals))).vm.method? mk = some my := hm
  generalize (U.setTop g).pushFrame (.java (entryFrame mk #[.ref b] cy.maxLocals)) = u at hA hfs hback hcg hm1 ⊢
  unfold entryFrame
  jvm_step hA [hexec, h0]
  jvm_step hA [hA.top, hexec, h1, hm1, hrt, narrow]
  intro acts'
  rw [doReturn_leave (g := g) (meth := my) (cg := c) (ig := ig) (len := 3) acts' hfs hm1 hlk rfl rfl hcg hdg, hback, State.setTop_setTop]
  exact Steps.refl _

/-- a virtual call whose reference is found in another class or interface than it names: the call's choice given -/
theorem dm_step {p : Program} {l : Launch} {e : Env} {R : Room} {s : State} {m : MethodId} {args : Array Value} {below : List Frame} {meth : Method} {c : Code} {T : State} {locs : List Loc} {cells slots : Nat} (X : Stand p l e R s m args below meth c T locs cells slots) (hexec : p.tables.exec = Jvm.exec) {own owner : String} {index : Nat} {x : MethodName} (hown : s.vm.findClass own = some m.cls) (hlink : (Cond.methodLink own index x).before args s = true) (hsame : (Cond.sameMethod x.cls owner x.name x.desc).before args s = true) (howner : owner ≠ "java/lang/invoke/MethodHandle" ∧ owner ≠ "java/lang/invoke/VarHandle") {r0 : MethodId} {r : Method} (hn : s.methodNamed? ⟨owner, x.name, x.desc⟩ = some r0) (hrm : s.vm.method? r0 = some r) (hstatic : r.isStatic = false) {a : Addr} {cell : Cell} (hcell : T.heap[a]? = some cell) (hobj : ∀ c, cell.vm ≠ .statics c) {mk : MethodId} {mm : Method} (hpick : ∀ vm', s.vm.Alike vm' → PicksM e cell.cls r0 mk vm') (hmm : s.vm.method? mk = some mm) (habs : mm.isAbstract = false) {g : JFrame} (hg : g.method = m) {vs rest : List Value} (hlen : vs.length = r.sig.parameters.length) (hstack : g.stack = vs.reverse ++ .ref a :: rest) (hdg : decode c.code g.pc = .ok (.invokevirtual index, 3)) :
    ∃ vm', Stand p l e R s m args below meth c (T.setVm vm') locs cells slots ∧ ∀ target, (∀ acts, Steps p.tables e below (doInvoke e ((T.setVm vm').setTop { g with stack := rest }) acts mk (.ref a :: vs).toArray).1 target) → Steps p.tables e below (T.setTop g) target := by
  subst hg
  obtain ⟨cn, ck, r1, hcn, hck, hni, hf, hn1⟩ := Cond.sameMethod_found hsame
  cases hn.symm.trans hn1
  obtain ⟨ci, hl, hri⟩ := Cond.methodLink_specUp hown hcn hck hni hf hlink e.platform (by rw [X.admits.platform]) (by rw [X.admits.platform])
  have hE : s.MethodEntryUp e T.vm g.method.cls index cn r0 ci := State.methodEntryUp X.warmed hl hri
  have hal := hE.warmed.alike
  obtain ⟨kr, hkr, hnr⟩ := className_of_methodNamed hn
  obtain ⟨dk, cfl, nt, _, _, _, _, _, hdk, hcf, hcp, -⟩ := hl.here
  obtain ⟨kr2, hkr2, her⟩ := hal.2.2 _ _ hkr
  obtain ⟨ck2, hck2, hec⟩ := hal.2.2 _ _ hck
  obtain ⟨dk2, hdk2, hres⟩ := hE.classReady
  have hed : dk2.cf = some cfl := by
    obtain ⟨dk3, hdk3, hed⟩ := hal.2.2 _ _ hdk
    cases hdk2.symm.trans hdk3
    rw [hed]
    exact hcf
  have hpoly : signaturePolymorphic kr2 r = false := by
    rw [her]
    show signaturePolymorphic kr r = false
    simp [signaturePolymorphic, hnr, howner.1, howner.2]
  have hm0 : (T.vm.calledUp g.method.cls ci index cn r0).method? r0 = some r := by rw [hal.method?]; exact hrm
  have hm1 : (T.vm.calledUp g.method.cls ci index cn r0).method? mk = some mm := by rw [hal.method?]; exact hmm
  refine ⟨T.vm.calledUp g.method.cls ci index cn r0, X.noted hE.warmed, fun target h => ?_⟩
  jvm_step X.here [hexec, hdg, invokevirtual.wp_coldUp (e := e) (s := T) (s₀ := s) (f := g) X.here.top X.warmed hE hdk hcf (Or.inl hcp) hck hni, dm_wp (e := e) (s := T.setVm (T.vm.calledUp g.method.cls ci index cn r0)) (f := g) (r := r0) (m := mk) (c' := cn) (k := kr2) (k' := ck2) (rm := r) (mm := mm) (a := a) (vs := vs) (rest := rest) (cell := cell) X.here.top ⟨dk2, cfl, ci, nt, hdk2, hed, Or.inl hcp, dk2, hdk2, hres⟩ hck2 (by rw [hec]; exact hni) hE.ready hkr2 hm0 hpoly hstatic hlen hstack hcell hobj (hpick _ hal) hm1 habs]
  exact h
end DM
