/-! a lambda's object is called -/
set_option maxRecDepth 100000
section LAM2
theorem l_at {P : Nat → Bool} (h : (List.range 8).all P = true) {k : Nat} (hk : k < 8) : P k = true := by
  rw [List.all_eq_true] at h
  exact h k (List.mem_range.mpr hk)
theorem l_file {k : Nat} (hk : k < 8) : (gSh k).file "BombFamilies" = some (lDc k) := by
  have h := l_at l_some hk
  simp only [Bool.and_eq_true] at h
  obtain ⟨x, hx⟩ := Option.isSome_iff_exists.mp h.1
  simp [lDc, hx]
theorem l_second {k : Nat} (hk : k < 8) : ∀ ms, layoutMethods (lDc k) = some ms → ms[1]? = some (lFw k) := by
  intro ms hms
  have h := l_at l_some hk
  simp only [Bool.and_eq_true] at h
  obtain ⟨x, hx⟩ := Option.isSome_iff_exists.mp h.2
  have hf : lFw k = x := by simp [lFw, hx]
  rw [hms] at hx
  rw [hf]
  exact hx
abbrev lDs : String := "(LBombFamilies$Scope;)V"
/-- what is known of a lambda's object and its class -/
def LF (s : State) (k : Nat) (c : ClassId) (a : Addr) : Prop := ∃ (kc tk : Class) (file : ClassFile) (methk : Method) (ck : Code) (t iface : ClassId) (target found : MethodId) (cell : Cell),
  s.heap[a]? = some cell ∧ cell.cls = c ∧ cell.vm = .none ∧ s.vm.classes[c]? = some kc ∧ kc.name = "BombFamilies$$Lambda" ∧ kc.cf = some file ∧ file.constantPool = (lDc k).constantPool ∧
  s.vm.method? ⟨c, 1⟩ = some methk ∧ methk.code = some ck ∧ ck.code = lB ∧ ck.maxLocals = 2 ∧ ck.exceptionTable = #[] ∧ methk.locks = false ∧ methk.accessFlags = 0x0001 ∧ methk.sig.returnType = none ∧
  s.vm.findClass "BombFamilies" = some t ∧ s.vm.classes[t]? = some tk ∧ ((methodIn t (gNms.getD k "") lDs tk.isInterface none).ask { classPath := fun _ => none } s.vm).1 = .ok target ∧
  s.vm.methodReady c 17 target ∧ s.vm.classReady c 14 t ∧ s.vm.findClass "BombFamilies$Kind" = some iface ∧ ((methodIn iface "read" lDs true none).ask { classPath := fun _ => none } s.vm).1 = .ok found ∧ selectMethod {} s.vm c found = .method ⟨c, 1⟩ ∧
  s.vm.assignable c iface = true ∧ ((c :: s.vm.superclasses c).any fun k => (declaredIn s.vm "read" lDs k).any fun (_, x) => x.isPrivate || x.isStatic) = false
theorem lam_facts {s : State} {k : Nat} (hk : k < 8) {c : ClassId} {a : Addr} {pc ix : Nat} (h : s.lambdaAt? yX1_init pc ix (gSh k) = some (c, some a)) : LF s k c a := by
  obtain ⟨m, k0, cf0, i0, p0, l, hm, hk0, -, -, -, -, hmade, hcall, hl⟩ := State.lambdaAt?_spec h
  have hcl : ∃ cell, s.heap[a]? = some cell ∧ cell.cls = c ∧ cell.vm = .none := by
    rcases hl with ⟨a', cell, -, h1, -, h2, h3, h4, -⟩ | ⟨-, h1, -⟩
    · cases h1; exact ⟨cell, h2, h3, h4⟩
    · cases h1
  obtain ⟨cell, hc1, hc2, hc3⟩ := hcl
  obtain ⟨kx, hkx, hnx⟩ := className_of_methodNamed hm
  have hname : kx.name = "BombFamilies" := hnx
  obtain ⟨dk', kc, ok, tk, file, cf, object, iface, t, lay, methods, target, found, hd', hkc, hfile, hcf, -, hif, -, -, hms, ht, htk, hg, hgf, hrec, -, -, -, -, hpool, hmeth, -, -, hres, hsel⟩ := Lambda.isMade_spec hmade
  cases hkx.symm.trans hd'
  rw [hname, l_file hk] at hcf
  cases hcf
  obtain ⟨i2, hi2, hasg, hway⟩ := State.lambdaCallable_spec hcall
  cases hif.symm.trans hi2
  obtain ⟨b, hb, hsame⟩ := hmeth 1 (lFw k) (l_second hk methods hms)
  obtain ⟨hn, hdc, hsig, hfl, x, y, hx, hy, -, y2, y3, y4⟩ := Lambda.sameMethod_spec hsame
  have fc := of_decide_eq_true (l_at l_code hk)
  have ff := of_decide_eq_true (l_at l_flag hk)
  have f17 := of_decide_eq_true (l_at l_17 hk)
  have f14 := of_decide_eq_true (l_at l_14 hk)
  simp only [Prod.mk.injEq] at ff
  rw [hx] at fc
  simp only [Option.map_some, Option.some.injEq, Prod.mk.injEq] at fc
  refine ⟨kc, tk, file, b, y, t, iface, target, found, cell, hc1, hc2, hc3, hkc, by rw [hrec.1, hname]; rfl, hfile, hpool.2.1, by simp [Vm.method?, hkc, hb], hy, by rw [y3]; exact ByteArray.ext fc.1, by rw [y2]; exact fc.2, y4, ?_, by rw [hfl]; exact ff.1, by rw [hsig]; exact ff.2.2, ht, htk, hg,
    ⟨kc, hkc, hres 17 _ (Lambda.resolvedOf_method f17.1 f17.2.1 ht htk f17.2.2 hg)⟩, ⟨kc, hkc, hres 14 _ (Lambda.resolvedOf_class f14.1 f14.2.2 f14.2.1 ht)⟩, hif, hgf, hsel, hasg, hway⟩
  simp [Method.locks, Method.isSynchronized, hfl, ff.1, hasFlag, Acc.synchronized]
end LAM2
