
set_option maxRecDepth 100000
theorem dm_decl (v : Vm) (n d : String) (k : ClassId) : declaredIn v.bare n d k = declaredIn v n d k := by
  unfold declaredIn
  rw [Vm.classes_bare, Vm.method?_bare]
  cases v.classes[k]? <;> rfl
theorem dm_any (v : Vm) (f : Class → Bool) (hf : ∀ k : Class, f k.bare = f k) (k : ClassId) : (v.bare.classes[k]?).any f = (v.classes[k]?).any f := by
  rw [Vm.classes_bare]
  cases v.classes[k]? with
  | none => rfl
  | some x => exact hf x
theorem dm_near {vm vm' : Vm} (h : vm.Alike vm') (c : ClassId) (n d : String) : nearestHeld vm' c n d = nearestHeld vm c n d := by
  have key : ∀ v : Vm, nearestHeld v.bare c n d = nearestHeld v c n d := fun v => by
    have i1 : ∀ k : ClassId, (v.bare.classes[k]?).any (·.isInterface) = (v.classes[k]?).any (·.isInterface) := dm_any v _ fun _ => rfl
    have i2 : ∀ k : ClassId, ((v.bare.classes[k]?).any fun x => x.methods.any fun m => !m.isAbstract && !m.isStatic) = (v.classes[k]?).any fun x => x.methods.any fun m => !m.isAbstract && !m.isStatic := dm_any v _ fun _ => rfl
    have i3 : ∀ (g : ClassId → Bool) (k : ClassId), (v.bare.classes[k]?).any (·.interfaces.any g) = (v.classes[k]?).any (·.interfaces.any g) := fun g => dm_any v _ fun _ => rfl
    simp only [nearestHeld, held, Vm.superclasses_bare, dm_decl, Vm.superinterfaces_bare, Vm.method?_bare, superinterfaceMethods_bare, maximallySpecific_bare, i1, i2, i3]
  rw [← key vm', h.bare_eq, key]
