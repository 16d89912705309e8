
set_option maxRecDepth 100000
/-- the call's choice at a receiver of class c: whatever waits behind it is asked of m -/
def PicksM (e : Env) (c : ClassId) (r m : MethodId) (vm : Vm) : Prop := ∀ (Q : Selection → Jvm.Pre) (E : Jvm.CtlPost) (d : Bool) (acts : List Action) (s : State), s.vm = vm → (Jvm.Sem.wp (Op.invokeinterface.selectVirtual c r) Q E e d acts s ↔ Q (.method m) d acts s)
/-- the default's own place in the table, as the word asks it -/
def NearB (vm : Vm) (c : ClassId) (n d : String) (m : MethodId) : Bool := match nearestHeld vm c n d with
  | some (_, .default x) => decide (x = m)
  | some (_, .thrower _) => false
  | _ => true
theorem dm_picks {e : Env} {vm : Vm} {c : ClassId} {r m : MethodId} {rm mm : Method} (hs : selectMethod e.platform vm c r = .method m) (hr : vm.method? r = some rm) (hm : vm.method? m = some mm) (hn : NearB vm c rm.name rm.desc m = true) : PicksM e c r m vm := by
  intro Q E d acts s hv
  subst hv
  obtain ⟨mk, hmk, -⟩ : ∃ k, s.vm.classes[m.cls]? = some k ∧ k.methods[m.idx]? = some mm := by
    simpa [Vm.method?, Option.bind_eq_some_iff] using hm
  unfold NearB at hn
  cases hi : mk.isInterface <;> cases hp : e.platform.privateHidesDefault
  · simp [Op.invokeinterface.selectVirtual, hr, Op.selectFor_method hs hm, hmk, hi]
  · simp [Op.invokeinterface.selectVirtual, hr, Op.selectFor_method hs hm, hmk, hi]
  · simp [Op.invokeinterface.selectVirtual, hr, Op.selectFor_method hs hm, hmk, hi, hp]
  · split at hn
    · rename_i k x he
      simp only [decide_eq_true_eq] at hn
      subst hn
      simp [Op.invokeinterface.selectVirtual, hr, Op.selectFor_method hs hm, hmk, hi, hp, he]
    · cases hn
    · rename_i h1 h2
      cases he : nearestHeld s.vm c rm.name rm.desc with
      | none => simp [Op.invokeinterface.selectVirtual, hr, Op.selectFor_method hs hm, hmk, hi, hp, he]
      | some q =>
        obtain ⟨k, q⟩ := q
        cases q with
        | nothing => simp [Op.invokeinterface.selectVirtual, hr, Op.selectFor_method hs hm, hmk, hi, hp, he]
        | default x => exact absurd he (h1 k x)
        | thrower b => exact absurd he (h2 k b)

section DM
theorem dm_wp {Q : Unit → Pre} {E : CtlPost} {e : Env} {d : Bool} {acts : List Action} {s : State} {f : JFrame} {index a : Nat} {r m : MethodId} {c' : ClassId} {k k' : Class} {rm mm : Method} {vs rest : List Value} {cell : Cell} (hs : s.topJava?.isSome) (hnamed : namesResolved s.vm f.method.cls index c') (hk' : s.vm.classes[c']? = some k') (hclass : k'.isInterface = false) (hr : s.vm.methodReady f.method.cls index r) (hk : s.vm.classes[r.cls]? = some k) (hrm : s.vm.method? r = some rm) (hpoly : signaturePolymorphic k rm = false) (hstatic : rm.isStatic = false) (hlen : vs.length = rm.sig.parameters.length) (hstack : f.stack = vs.reverse ++ .ref a :: rest) (hcell : s.heap[a]? = some cell) (hobj : ∀ c, cell.vm ≠ .statics c) (hpick : PicksM e cell.cls r m s.vm) (hm : s.vm.method? m = some mm) (habs : mm.isAbstract = false) : wp (invokevirtual.sem index) Q E e d acts (s.setTop f) ↔ E (.invoke m (.ref a :: vs).toArray) acts (s.setTop { f with stack := rest }) := by
  obtain ⟨kc, cf, ci, n, h1, h2, h3, h4⟩ := hnamed
  have hpk := fun Q' d' ac' => hpick Q' E d' ac' (s.setTop { f with stack := rest }) rfl
  have h0 : ∀ Q' : ClassId → Pre, wp (Jvm.refClassAt index) Q' E e d acts (s.setTop f) ↔ Q' c' d acts (s.setTop f) := fun Q' => by
    rcases h3 with h | h <;> simp [Jvm.refClassAt, Jvm.constantAt, State.method?_setTop f hs, h1, h2, h, W.resolveClassAt_ready (State.method?_setTop f hs) h4]
  unfold invokevirtual.sem
  simp only [wp_bind', h0, W.theClass, State.vm_setTop, hk', Option.some.injEq, exists_eq_left', W.ite, hclass, Bool.false_eq_true, if_false, wp_pure', W.resolveMethodAt_ready (State.method?_setTop f hs) hr, W.theMethod, hrm, Seam.isPolymorphic, hk, hpoly, hstatic, Jvm.popArgs, ← hlen, popN_top hs hstack]
  simp [hs, hcell, hobj, hpk, hm, habs]

/-- a method that pushes 0 and hands it back (nothing is asked of its class' initialisation: the frame is walked here) -/
theorem dm_zero {p : Program} {l : Launch} {e : Env} {R : Room} {s : State} {args : Array Value} {below : List Frame} {y : MethodName} {bytes : ByteArray} {W : Nat} (hexec : p.tables.exec = Jvm.exec) (hpl : plainName y.cls = true) (hcode : (Cond.code y bytes 1 (some .int)).before args s = true) (h0 : decode bytes 0 = .ok (.iconst 0, 1)) (h1 : decode bytes 1 = .ok (.ireturn, 1)) (hfr : 1 ≤ R.frames) (hlo : W + 12 ≤ R.locals) : Back l R p e below s args y 3 W (fun _ a => ∃ b, a = #[.ref b]) (fun A _ v B => v = some (.int 0) ∧ B = A) := by
  intro m meth c A g ig mk a X hg hsize hdg hW hn hp
  obtain ⟨b, rfl⟩ := hp
  obtain ⟨U, Ls, c0, s0⟩ := A
  dsimp only [Pt.U, Pt.locs, Pt.cells, Pt.slots] at X hn ⊢
  have hcw : (Cond.code y bytes 1 (some .int)).before #[] U = true := word_at X.warmed (Or.inl (by first | rfl | simp [Cond.onTables, Cond.keeps, Cond.steady])) hcode
  obtain ⟨my, cy, hm, hc, hby, hml, hrt, hlk, hrest⟩ := Cond.code_spec hn hcw
  subst hby
  subst hg
  have h := X.here
  have hplm : U.plainMethod mk := State.plainMethod.of_name fun k hk => by
    obtain ⟨k', hk', hnm⟩ := className_of_methodNamed hn
    cases hk.symm.trans hk'
    rw [hnm]
    exact hpl
  refine ⟨some (.int 0), (U, Ls, c0, s0), X, ⟨rfl, rfl⟩, ?_⟩
  rw [doInvoke_enter h.top [] hm hc hlk (X.notFull hsize hfr (by rw [hml]; omega))]
  have hA : At ((U.setTop g).pushFrame (.java (entryFrame mk #[.ref b] cy.maxLocals))) mk cy below := h.enter #[.ref b] hm hc hplm
  have hfs := frames_entered (g := g) h.top (.java (entryFrame mk #[.ref b] cy.maxLocals))
  have hback := setFrames_entered (s := U) (g := g) h.top (.java (entryFrame mk #[.ref b] cy.maxLocals))
  have hcg : ((U.setTop g).pushFrame (.java (entryFrame mk #[.ref b] cy.maxLocals))).code? g.method = some c := by
    have := h.code
    rw [State.code?_eq] at this ⊢
    simpa [State.pushFrame, State.setFrames] using this
  have hm1 : ((U.setTop g).pushFrame (.java (entryFrame mk #[.ref b] cy.maxLocals))).vm.method? mk = some my := hm
  generalize (U.setTop g).pushFrame (.java (entryFrame mk #[.ref b] cy.maxLocals)) = u at hA hfs hback hcg hm1 ⊢
  unfold entryFrame
  jvm_step hA [hexec, h0]
  jvm_step hA [hA.top, hexec, h1, hm1, hrt, narrow]
  intro acts'
  rw [doReturn_leave (g := g) (meth := my) (cg := c) (ig := ig) (len := 3) acts' hfs hm1 hlk rfl rfl hcg hdg, hback, State.setTop_setTop]
  exact Steps.refl _
end DM
