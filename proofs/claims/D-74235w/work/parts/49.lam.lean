/-! THE LAMBDAS' CLASSES (gen/lam.py) -/
set_option maxRecDepth 100000
/-! lambda 0: lambda$fewest$0 -/
abbrev k0_s : Lambda.Shape := (e_site siteWord_1_1).2.2.2
def k0_B : ByteArray := ⟨#[0x2a, 0xb4, 0x00, 0x10, 0x2a, 0xb4, 0x00, 0x12, 0x2b, 0xb8, 0x00, 0x1a, 0xac]⟩
theorem k0_d0 : decode k0_B 0 = .ok (.aload_n 0, 1) := by decide +kernel
theorem k0_d1 : decode k0_B 1 = .ok (.getfield 16, 3) := by decide +kernel
theorem k0_d4 : decode k0_B 4 = .ok (.aload_n 0, 1) := by decide +kernel
theorem k0_d5 : decode k0_B 5 = .ok (.getfield 18, 3) := by decide +kernel
theorem k0_d8 : decode k0_B 8 = .ok (.aload_n 1, 1) := by decide +kernel
theorem k0_d9 : decode k0_B 9 = .ok (.invokestatic 26, 3) := by decide +kernel
theorem k0_d12 : decode k0_B 12 = .ok (.ireturn, 1) := by decide +kernel
def k0_D : ClassFile := (k0_s.file "ReasonCloser").getD { minorVersion := 0, majorVersion := 0, constantPool := #[], accessFlags := 0, thisClass := 0, superClass := 0, interfaces := #[], fields := #[], methods := #[], attributes := #[] }
def k0_m : Method := ((layoutMethods k0_D).bind (·[1]?)).getD default
def k0_l : Array Field × Array FieldType × Array FieldType := (layoutFields k0_D 0).getD (#[], #[], #[])
theorem k0_file : k0_s.file "ReasonCloser" = some k0_D := by
  have h : (k0_s.file "ReasonCloser").isSome = true := by decide +kernel
  obtain ⟨x, hx⟩ := Option.isSome_iff_exists.mp h
  unfold k0_D
  rw [hx]
  rfl
theorem k0_snd : ∀ ms, layoutMethods k0_D = some ms → ms[1]? = some k0_m := by
  intro ms hms
  have h : ((layoutMethods k0_D).bind (·[1]?)).isSome = true := by decide +kernel
  obtain ⟨x, hx⟩ := Option.isSome_iff_exists.mp h
  have hf : k0_m = x := by unfold k0_m; rw [hx]; rfl
  rw [hms] at hx
  rw [hf]
  exact hx
theorem k0_lay : layoutFields k0_D 0 = some k0_l := by
  have h : (layoutFields k0_D 0).isSome = true := by decide +kernel
  obtain ⟨x, hx⟩ := Option.isSome_iff_exists.mp h
  unfold k0_l
  rw [hx]
  rfl
theorem k0_code : (k0_m.code.map fun c => (c.code.data, c.maxLocals)) = some (k0_B.data, 2) := by decide +kernel
theorem k0_flags : (k0_m.accessFlags, k0_m.name, k0_m.sig.returnType) = (0x0001, "holds", some FieldType.boolean) := by decide +kernel
theorem k0_eM : k0_D.constantPool[26]? = some (.methodref 22 25) ∧ k0_D.constantPool.className? 22 = some "ReasonCloser" ∧ k0_D.constantPool.nameAndType? 25 = some ("lambda$fewest$0", "(IILReasonCloser$Closed;)Z") := by decide +kernel
theorem k0_eC : k0_D.constantPool[22]? = some (.class_ 21) ∧ k0_D.constantPool.string? 21 = some "ReasonCloser" ∧ 22 ≠ k0_D.thisClass := by decide +kernel
theorem k0_eF0 : k0_D.constantPool[16]? = some (.fieldref 2 15) ∧ k0_D.constantPool.nameAndType? 15 = some ("arg$1", "I") ∧ k0_l.1.findIdx? (·.name == "arg$1") = some 0 ∧ (k0_l.1[0]?).map (fun f => (f.isStatic, f.slot)) = some (false, 0) := by decide +kernel
theorem k0_eF1 : k0_D.constantPool[18]? = some (.fieldref 2 17) ∧ k0_D.constantPool.nameAndType? 17 = some ("arg$2", "I") ∧ k0_l.1.findIdx? (·.name == "arg$2") = some 1 ∧ (k0_l.1[1]?).map (fun f => (f.isStatic, f.slot)) = some (false, 1) := by decide +kernel
theorem k0_types : k0_l.2.1 = #[.int, .int] := by decide +kernel
theorem k0_facts {e : Setting} {vm : Vm} {d c : ClassId} {dk : Class} (hd : vm.classes[d]? = some dk) (hname : dk.name = "ReasonCloser") (h : Lambda.isMade e vm d k0_s c = true)
    (hO : ∀ o ok, vm.findClass "java/lang/Object" = some o → vm.classes[o]? = some ok → ok.instanceTypes.size = 0) :
    ∃ (k tk : Class) (file : ClassFile) (methk : Method) (ck : Code) (toy : ClassId) (t : MethodId) (g0 : Field) (g1 : Field),
      vm.classes[c]? = some k ∧ k.name = "ReasonCloser$$Lambda" ∧ k.cf = some file ∧ file.constantPool = k0_D.constantPool ∧
      vm.method? ⟨c, 1⟩ = some methk ∧ methk.code = some ck ∧ ck.code = k0_B ∧ ck.maxLocals = 2 ∧ methk.locks = false ∧ methk.accessFlags = 0x0001 ∧ methk.sig.returnType = some FieldType.boolean ∧
      vm.findClass "ReasonCloser" = some toy ∧ vm.classes[toy]? = some tk ∧ tk.isInterface = false ∧ ((methodIn toy "lambda$fewest$0" "(IILReasonCloser$Closed;)Z" tk.isInterface none).ask e vm).1 = .ok t ∧
      vm.methodReady c 26 t ∧ vm.classReady c 22 toy ∧ k.instanceTypes = #[.int, .int] ∧ k.kind = .ordinary ∧ vm.fieldReady c 16 c g0 ∧ g0.isStatic = false ∧ g0.slot = 0 ∧ vm.fieldReady c 18 c g1 ∧ g1.isStatic = false ∧ g1.slot = 1 := by
  obtain ⟨dk', k, ok, tk, file, cf, object, iface, toy, lay, methods, target, found, hd', hk, hfile, hcf, hobj, -, hok, hlay, hms, ht, htk, hg, -, hrec, -, -, -, hitf, hpool, hmeth, hfields, hty, hres, -⟩ := Lambda.isMade_spec h
  cases hd.symm.trans hd'
  rw [hname, k0_file] at hcf
  cases hcf
  have hok0 : ok.instanceTypes = #[] := Array.eq_empty_of_size_eq_zero (hO object ok hobj hok)
  rw [hO object ok hobj hok, k0_lay] at hlay
  cases hlay
  obtain ⟨b, hb, hsame⟩ := hmeth 1 k0_m (k0_snd methods hms)
  obtain ⟨hn, -, hsig, hfl, x, y, hfc, hbc, -, hml, hcc, -⟩ := Lambda.sameMethod_spec hsame
  have fc := k0_code
  have ff := k0_flags
  simp only [Prod.mk.injEq] at ff
  obtain ⟨g0, hg0, hp0⟩ := Option.map_eq_some_iff.mp k0_eF0.2.2.2
  simp only [Prod.mk.injEq] at hp0
  obtain ⟨g1, hg1, hp1⟩ := Option.map_eq_some_iff.mp k0_eF1.2.2.2
  simp only [Prod.mk.injEq] at hp1
  rw [hfc] at fc
  simp only [Option.map_some, Option.some.injEq, Prod.mk.injEq] at fc
  refine ⟨k, tk, file, b, y, toy, target, g0, g1, hk, by rw [hrec.1, hname]; rfl, hfile, hpool.2.1, by simp [Vm.method?, hk, hb], hbc, ?_, by rw [hml]; exact fc.2, ?_, by rw [hfl]; exact ff.1, by rw [hsig]; exact ff.2.2, ht, htk, hitf, hg,
    ⟨k, hk, hres 26 _ (Lambda.resolvedOf_method k0_eM.1 k0_eM.2.1 ht htk k0_eM.2.2 hg)⟩, ⟨k, hk, hres 22 _ (Lambda.resolvedOf_class k0_eC.1 k0_eC.2.2 k0_eC.2.1 ht)⟩, by rw [hty.1, hok0, k0_types]; rfl, hrec.2.1, ⟨k, 0, k, hk, hres 16 _ (Lambda.resolvedOf_field k0_eF0.1 k0_eF0.2.1 k0_eF0.2.2.1), hk, hfields 0 _ hg0⟩, hp0.1, hp0.2, ⟨k, 1, k, hk, hres 18 _ (Lambda.resolvedOf_field k0_eF1.1 k0_eF1.2.1 k0_eF1.2.2.1), hk, hfields 1 _ hg1⟩, hp1.1, hp1.2⟩
  · rw [hcc]
    exact ByteArray.ext fc.1
  · simp [Method.locks, Method.isSynchronized, hfl, ff.1, hasFlag, Acc.synchronized]
/-! lambda 1: lambda$core$1 -/
abbrev k1_s : Lambda.Shape := (e_site siteWord_1_2).2.2.2
def k1_B : ByteArray := ⟨#[0x2a, 0xb4, 0x00, 0x0f, 0x2b, 0xb6, 0x00, 0x16, 0xac]⟩
theorem k1_d0 : decode k1_B 0 = .ok (.aload_n 0, 1) := by decide +kernel
theorem k1_d1 : decode k1_B 1 = .ok (.getfield 15, 3) := by decide +kernel
theorem k1_d4 : decode k1_B 4 = .ok (.aload_n 1, 1) := by decide +kernel
theorem k1_d5 : decode k1_B 5 = .ok (.invokevirtual 22, 3) := by decide +kernel
theorem k1_d8 : decode k1_B 8 = .ok (.ireturn, 1) := by decide +kernel
def k1_D : ClassFile := (k1_s.file "ReasonCloser").getD { minorVersion := 0, majorVersion := 0, constantPool := #[], accessFlags := 0, thisClass := 0, superClass := 0, interfaces := #[], fields := #[], methods := #[], attributes := #[] }
def k1_m : Method := ((layoutMethods k1_D).bind (·[1]?)).getD default
def k1_l : Array Field × Array FieldType × Array FieldType := (layoutFields k1_D 0).getD (#[], #[], #[])
theorem k1_file : k1_s.file "ReasonCloser" = some k1_D := by
  have h : (k1_s.file "ReasonCloser").isSome = true := by decide +kernel
  obtain ⟨x, hx⟩ := Option.isSome_iff_exists.mp h
  unfold k1_D
  rw [hx]
  rfl
theorem k1_snd : ∀ ms, layoutMethods k1_D = some ms → ms[1]? = some k1_m := by
  intro ms hms
  have h : ((layoutMethods k1_D).bind (·[1]?)).isSome = true := by decide +kernel
  obtain ⟨x, hx⟩ := Option.isSome_iff_exists.mp h
  have hf : k1_m = x := by unfold k1_m; rw [hx]; rfl
  rw [hms] at hx
  rw [hf]
  exact hx
theorem k1_lay : layoutFields k1_D 0 = some k1_l := by
  have h : (layoutFields k1_D 0).isSome = true := by decide +kernel
  obtain ⟨x, hx⟩ := Option.isSome_iff_exists.mp h
  unfold k1_l
  rw [hx]
  rfl
theorem k1_code : (k1_m.code.map fun c => (c.code.data, c.maxLocals)) = some (k1_B.data, 2) := by decide +kernel
theorem k1_flags : (k1_m.accessFlags, k1_m.name, k1_m.sig.returnType) = (0x0001, "holds", some FieldType.boolean) := by decide +kernel
theorem k1_eM : k1_D.constantPool[22]? = some (.methodref 19 21) ∧ k1_D.constantPool.className? 19 = some "ReasonCloser" ∧ k1_D.constantPool.nameAndType? 21 = some ("lambda$core$1", "(LReasonCloser$Closed;)Z") := by decide +kernel
theorem k1_eC : k1_D.constantPool[19]? = some (.class_ 18) ∧ k1_D.constantPool.string? 18 = some "ReasonCloser" ∧ 19 ≠ k1_D.thisClass := by decide +kernel
theorem k1_eF0 : k1_D.constantPool[15]? = some (.fieldref 2 14) ∧ k1_D.constantPool.nameAndType? 14 = some ("arg$1", "LReasonCloser;") ∧ k1_l.1.findIdx? (·.name == "arg$1") = some 0 ∧ (k1_l.1[0]?).map (fun f => (f.isStatic, f.slot)) = some (false, 0) := by decide +kernel
theorem k1_types : k1_l.2.1 = #[.object "ReasonCloser"] := by decide +kernel
theorem k1_facts {e : Setting} {vm : Vm} {d c : ClassId} {dk : Class} (hd : vm.classes[d]? = some dk) (hname : dk.name = "ReasonCloser") (h : Lambda.isMade e vm d k1_s c = true)
    (hO : ∀ o ok, vm.findClass "java/lang/Object" = some o → vm.classes[o]? = some ok → ok.instanceTypes.size = 0) :
    ∃ (k tk : Class) (file : ClassFile) (methk : Method) (ck : Code) (toy : ClassId) (t : MethodId) (g0 : Field),
      vm.classes[c]? = some k ∧ k.name = "ReasonCloser$$Lambda" ∧ k.cf = some file ∧ file.constantPool = k1_D.constantPool ∧
      vm.method? ⟨c, 1⟩ = some methk ∧ methk.code = some ck ∧ ck.code = k1_B ∧ ck.maxLocals = 2 ∧ methk.locks = false ∧ methk.accessFlags = 0x0001 ∧ methk.sig.returnType = some FieldType.boolean ∧
      vm.findClass "ReasonCloser" = some toy ∧ vm.classes[toy]? = some tk ∧ tk.isInterface = false ∧ ((methodIn toy "lambda$core$1" "(LReasonCloser$Closed;)Z" tk.isInterface none).ask e vm).1 = .ok t ∧
      vm.methodReady c 22 t ∧ vm.classReady c 19 toy ∧ k.instanceTypes = #[.object "ReasonCloser"] ∧ k.kind = .ordinary ∧ vm.fieldReady c 15 c g0 ∧ g0.isStatic = false ∧ g0.slot = 0 := by
  obtain ⟨dk', k, ok, tk, file, cf, object, iface, toy, lay, methods, target, found, hd', hk, hfile, hcf, hobj, -, hok, hlay, hms, ht, htk, hg, -, hrec, -, -, -, hitf, hpool, hmeth, hfields, hty, hres, -⟩ := Lambda.isMade_spec h
  cases hd.symm.trans hd'
  rw [hname, k1_file] at hcf
  cases hcf
  have hok0 : ok.instanceTypes = #[] := Array.eq_empty_of_size_eq_zero (hO object ok hobj hok)
  rw [hO object ok hobj hok, k1_lay] at hlay
  cases hlay
  obtain ⟨b, hb, hsame⟩ := hmeth 1 k1_m (k1_snd methods hms)
  obtain ⟨hn, -, hsig, hfl, x, y, hfc, hbc, -, hml, hcc, -⟩ := Lambda.sameMethod_spec hsame
  have fc := k1_code
  have ff := k1_flags
  simp only [Prod.mk.injEq] at ff
  obtain ⟨g0, hg0, hp0⟩ := Option.map_eq_some_iff.mp k1_eF0.2.2.2
  simp only [Prod.mk.injEq] at hp0
  rw [hfc] at fc
  simp only [Option.map_some, Option.some.injEq, Prod.mk.injEq] at fc
  refine ⟨k, tk, file, b, y, toy, target, g0, hk, by rw [hrec.1, hname]; rfl, hfile, hpool.2.1, by simp [Vm.method?, hk, hb], hbc, ?_, by rw [hml]; exact fc.2, ?_, by rw [hfl]; exact ff.1, by rw [hsig]; exact ff.2.2, ht, htk, hitf, hg,
    ⟨k, hk, hres 22 _ (Lambda.resolvedOf_method k1_eM.1 k1_eM.2.1 ht htk k1_eM.2.2 hg)⟩, ⟨k, hk, hres 19 _ (Lambda.resolvedOf_class k1_eC.1 k1_eC.2.2 k1_eC.2.1 ht)⟩, by rw [hty.1, hok0, k1_types]; rfl, hrec.2.1, ⟨k, 0, k, hk, hres 15 _ (Lambda.resolvedOf_field k1_eF0.1 k1_eF0.2.1 k1_eF0.2.2.1), hk, hfields 0 _ hg0⟩, hp0.1, hp0.2⟩
  · rw [hcc]
    exact ByteArray.ext fc.1
  · simp [Method.locks, Method.isSynchronized, hfl, ff.1, hasFlag, Acc.synchronized]
