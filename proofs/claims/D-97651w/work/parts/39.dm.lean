
set_option maxRecDepth 100000
/-- the call's choice at a receiver of class c: whatever waits behind it is asked of m -/
def PicksM (e : Env) (c : ClassId) (r m : MethodId) (vm : Vm) : Prop := ∀ (Q : Selection → Jvm.Pre) (E : Jvm.CtlPost) (d : Bool) (acts : List Action) (s : State), s.vm = vm → (Jvm.Sem.wp (Op.invokeinterface.selectVirtual c r) Q E e d acts s ↔ Q (.method m) d acts s)
/-- the default's own place in the table, as the word asks it -/
def NearB (vm : Vm) (c : ClassId) (n d : String) (m : MethodId) : Bool := match nearestHeld vm c n d with
  | some (_, .default x) => decide (x = m)
  | some (_, .thrower _) => false
  | _ => true
theorem dm_picks {e : Env} {vm : Vm} {c : ClassId} {r m : MethodId} {rm mm : Method} (hs : selectMethod e.platform vm c r = .method m) (hr : vm.method? r = some rm) (hm : vm.method? m = some mm) (hn : NearB vm c rm.name rm.desc m = true) : PicksM e c r m vm := by
  intro Q E d acts s hv
  subst hv
  obtain ⟨mk, hmk, -⟩ : ∃ k, s.vm.classes[m.cls]? = some k ∧ k.methods[m.idx]? = some mm := by
    simpa [Vm.method?, Option.bind_eq_some_iff] using hm
  unfold NearB at hn
  cases hi : mk.isInterface <;> cases hp : e.platform.privateHidesDefault
  · simp [Op.invokeinterface.selectVirtual, hr, Op.selectFor_method hs hm, hmk, hi]
  · simp [Op.invokeinterface.selectVirtual, hr, Op.selectFor_method hs hm, hmk, hi]
  · simp [Op.invokeinterface.selectVirtual, hr, Op.selectFor_method hs hm, hmk, hi, hp]
  · split at hn
    · rename_i k x he
      simp only [decide_eq_true_eq] at hn
      subst hn
      simp [Op.invokeinterface.selectVirtual, hr, Op.selectFor_method hs hm, hmk, hi, hp, he]
    · cases hn
    · rename_i h1 h2
      cases he : nearestHeld s.vm c rm.name rm.desc with
      | none => simp [Op.invokeinterface.selectVirtual, hr, Op.selectFor_method hs hm, hmk, hi, hp, he]
      | some q =>
        obtain ⟨k, q⟩ := q
        cases q with
        | nothing => simp [Op.invokeinterface.selectVirtual, hr, Op.selectFor_method hs hm, hmk, hi, hp, he]
        | default x => exact absurd he (h1 k x)
        | thrower b => exact absurd he (h2 k b)

section DM
theorem dm_wp {Q : Unit → Pre} {E : CtlPost} {e : Env} {d : Bool} {acts : List Action} {s : State} {f : JFrame} {index a : Nat} {r m : MethodId} {c' : ClassId} {k k' : Class} {rm mm : Method} {vs rest : List Value} {cell : Cell} (hs : s.topJava?.isSome) (hnamed : namesResolved s.vm f.method.cls index c') (hk' : s.vm.classes[c']? = some k') (hclass : k'.isInterface = false) (hr : s.vm.methodReady f.method.cls index r) (hk : s.vm.classes[r.cls]? = some k) (hrm : s.vm.method? r = some rm) (hpoly : signaturePolymorphic k rm = false) (hstatic : rm.isStatic = false) (hlen : vs.length = rm.sig.parameters.length) (hstack : f.stack = vs.reverse ++ .ref a :: rest) (hcell : s.heap[a]? = some cell) (hobj : ∀ c, cell.vm ≠ .statics c) (hpick : PicksM e cell.cls r m s.vm) (hm : s.vm.method? m = some mm) (habs : mm.isAbstract = false) : wp (invokevirtual.sem index) Q E e d acts (s.setTop f) ↔ E (.invoke m (.ref a :: vs).toArray) acts (s.setTop { f with stack := rest }) := by
  obtain ⟨kc, cf, ci, n, h1, h2, h3, h4⟩ := hnamed
  have hpk := fun Q' d' ac' => hpick Q' E d' ac' (s.setTop { f with stack := rest }) rfl
  have h0 : ∀ Q' : ClassId → Pre, wp (Jvm.refClassAt index) Q' E e d acts (s.setTop f) ↔ Q' c' d acts (s.setTop f) := fun Q' => by
    rcases h3 with h | h <;> simp [Jvm.refClassAt, Jvm.constantAt, State.method?_setTop f hs, h1, h2, h, W.resolveClassAt_ready (State.method?_setTop f hs) h4]
  unfold invokevirtual.sem
  simp only [wp_bind', h0, W.theClass, State.vm_setTop, hk', Option.some.injEq, exists_eq_left', W.ite, hclass, Bool.false_eq_true, if_false, wp_pure', W.resolveMethodAt_ready (State.method?_setTop f hs) hr, W.theMethod, hrm, Seam.isPolymorphic, hk, hpoly, hstatic, Jvm.popArgs, ← hlen, popN_top hs hstack]
  simp [hs, hcell, hobj, hpk, hm, habs]
end DM
