
set_option maxRecDepth 100000
/-- the call's choice at a receiver of class c: whatever waits behind it is asked of m -/
def PicksM (e : Env) (c : ClassId) (r m : MethodId) (vm : Vm) : Prop := ∀ (Q : Selection → Jvm.Pre) (E : Jvm.CtlPost) (d : Bool) (acts : List Action) (s : State), s.vm = vm → (Jvm.Sem.wp (Op.invokeinterface.selectVirtual c r) Q E e d acts s ↔ Q (.method m) d acts s)
/-- the default's own place in the table, as the word asks it -/
def NearB (vm : Vm) (c : ClassId) (n d : String) (m : MethodId) : Bool := match nearestHeld vm c n d with
  | some (_, .default x) => decide (x = m)
  | some (_, .thrower _) => false
  | _ => true
theorem dm_picks {e : Env} {vm : Vm} {c : ClassId} {r m : MethodId} {rm mm : Method} (hs : selectMethod e.platform vm c r = .method m) (hr : vm.method? r = some rm) (hm : vm.method? m = some mm) (hn : NearB vm c rm.name rm.desc m = true) : PicksM e c r m vm := by
  intro Q E d acts s hv
  subst hv
  obtain ⟨mk, hmk, -⟩ : ∃ k, s.vm.classes[m.cls]? = some k ∧ k.methods[m.idx]? = some mm := by
    simpa [Vm.method?, Option.bind_eq_some_iff] using hm
  unfold NearB at hn
  cases hi : mk.isInterface <;> cases hp : e.platform.privateHidesDefault
  · simp [Op.invokeinterface.selectVirtual, hr, Op.selectFor_method hs hm, hmk, hi]
  · simp [Op.invokeinterface.selectVirtual, hr, Op.selectFor_method hs hm, hmk, hi]
  · simp [Op.invokeinterface.selectVirtual, hr, Op.selectFor_method hs hm, hmk, hi, hp]
  · split at hn
    · rename_i k x he
      simp only [decide_eq_true_eq] at hn
      subst hn
      simp [Op.invokeinterface.selectVirtual, hr, Op.selectFor_method hs hm, hmk, hi, hp, he]
    · cases hn
    · rename_i h1 h2
      cases he : nearestHeld s.vm c rm.name rm.desc with
      | none => simp [Op.invokeinterface.selectVirtual, hr, Op.selectFor_method hs hm, hmk, hi, hp, he]
      | some q =>
        obtain ⟨k, q⟩ := q
        cases q with
        | nothing => simp [Op.invokeinterface.selectVirtual, hr, Op.selectFor_method hs hm, hmk, hi, hp, he]
        | default x => exact absurd he (h1 k x)
        | thrower b => exact absurd he (h2 k b)
