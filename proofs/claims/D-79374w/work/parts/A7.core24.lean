/-! CORE 24: the classes of the lambdas -/
set_option maxRecDepth 100000
/-- of no use -/
def lNone : ClassFile := { minorVersion := 0, majorVersion := 0, constantPool := #[], accessFlags := 0, thisClass := 0, superClass := 0, interfaces := #[], fields := #[], methods := #[], attributes := #[] }
def sg71 : Lambda.Shape := xsh "PolicyNotation$Told" "of" "PolicyNotation$Work" .int [.object "PolicyNotation"] 5 "PolicyNotation" "chained" [.object "PolicyNotation$Work"]
theorem sg71_in : ∃ x pc ix, (x, pc, ix, sg71, 71) ∈ xsites := ⟨_, _, _, List.mem_of_getElem? (i := 0) rfl⟩
def lC71 : ByteArray := ⟨#[0x2a, 0xb4, 0x00, 0x0f, 0x2b, 0xb6, 0x00, 0x16, 0xac]⟩
def lD71 : ClassFile := (sg71.file "PolicyNotation").getD lNone
def lW71 : Method := ((layoutMethods lD71).bind (·[1]?)).getD default
def lL71 : Array Field × Array FieldType × Array FieldType := (layoutFields lD71 0).getD (#[], #[], #[])
theorem lD71_is : sg71.file "PolicyNotation" = some lD71 := by
  have h : (sg71.file "PolicyNotation").isSome = true := by decide +kernel
  obtain ⟨x, hx⟩ := Option.isSome_iff_exists.mp h
  simp [lD71, hx]
theorem lW71_is : ∀ ms, layoutMethods lD71 = some ms → ms[1]? = some lW71 := by
  intro ms hms
  have h : ((layoutMethods lD71).bind (·[1]?)).isSome = true := by decide +kernel
  obtain ⟨x, hx⟩ := Option.isSome_iff_exists.mp h
  have hf : lW71 = x := by simp [lW71, hx]
  rw [hms] at hx
  rw [hf]
  exact hx
theorem lL71_is : layoutFields lD71 0 = some lL71 := by
  have h : (layoutFields lD71 0).isSome = true := by decide +kernel
  obtain ⟨x, hx⟩ := Option.isSome_iff_exists.mp h
  simp [lL71, hx]
theorem lc71 : (lW71.code.map fun c => (c.code.data, c.maxLocals)) = some (lC71.data, 2) := by decide +kernel
theorem lf71 : (lW71.accessFlags, lW71.name, lW71.sig.returnType) = (0x0001, "of", some (FieldType.int : FieldType)) := by decide +kernel
theorem lm71 : lD71.constantPool[22]? = some (.methodref 19 21) ∧ lD71.constantPool.className? 19 = some "PolicyNotation" ∧ lD71.constantPool.nameAndType? 21 = some ("chained", "(LPolicyNotation$Work;)I") := by decide +kernel
theorem lk71 : lD71.constantPool[19]? = some (.class_ 18) ∧ lD71.constantPool.string? 18 = some "PolicyNotation" ∧ 19 ≠ lD71.thisClass := by decide +kernel
theorem lg71_0 : lD71.constantPool[15]? = some (.fieldref 2 14) ∧ lD71.constantPool.nameAndType? 14 = some ("arg$1", "LPolicyNotation;") ∧ lL71.1.findIdx? (·.name == "arg$1") = some 0 ∧ (lL71.1[0]?).map (fun f => (f.isStatic, f.slot)) = some (false, 0) := by decide +kernel
theorem lF71 {vm : Vm} {d c : ClassId} {dk : Class} (hd : vm.classes[d]? = some dk) (hname : dk.name = "PolicyNotation") (h : Lambda.isMade { classPath := fun _ => none } vm d sg71 c = true) (hO : ∀ o ok, vm.findClass "java/lang/Object" = some o → vm.classes[o]? = some ok → ok.instanceTypes.size = 0) :
    ∃ (k tk : Class) (file : ClassFile) (methk : Method) (ck : Code) (tc : ClassId) (t : MethodId) (f0 : Field),
      vm.classes[c]? = some k ∧ k.name = "PolicyNotation$$Lambda" ∧ k.cf = some file ∧ file.constantPool = lD71.constantPool ∧
      vm.method? ⟨c, 1⟩ = some methk ∧ methk.code = some ck ∧ ck.code = lC71 ∧ ck.maxLocals = 2 ∧ methk.locks = false ∧ methk.accessFlags = 0x0001 ∧ methk.sig.returnType = some (FieldType.int) ∧
      vm.findClass "PolicyNotation" = some tc ∧ vm.classes[tc]? = some tk ∧ tk.isInterface = false ∧ ((methodIn tc "chained" "(LPolicyNotation$Work;)I" tk.isInterface none).ask { classPath := fun _ => none } vm).1 = .ok t ∧
      vm.methodReady c 22 t ∧ vm.classReady c 19 tc ∧ k.instanceTypes = lL71.2.1 ∧ vm.fieldReady c 15 c f0 ∧ f0.isStatic = false ∧ f0.slot = 0 := by
  obtain ⟨dk', k, ok, tk, file, cf, object, iface, tc, lay, methods, target, found, hd', hk, hfile, hcf, hobj, -, hok, hlay, hms, ht, htk, hg, -, hrec, -, -, -, hitf, hpool, hmeth, hfields, hin, hres, -⟩ := Lambda.isMade_spec h
  cases hd.symm.trans hd'
  rw [hname, lD71_is] at hcf
  cases hcf
  have h0 := hO object ok hobj hok
  rw [h0, lL71_is] at hlay
  cases hlay
  obtain ⟨b, hb, hsame⟩ := hmeth 1 lW71 (lW71_is methods hms)
  simp only [Lambda.sameMethod, Bool.and_eq_true, decide_eq_true_eq] at hsame
  obtain ⟨⟨hn, -, hsig, hfl⟩, hcode⟩ := hsame
  have fc := lc71
  have ff := lf71
  simp only [Prod.mk.injEq] at ff
  have hit : k.instanceTypes = lL71.2.1 := by
    rw [hin.1]
    have e : ok.instanceTypes = #[] := Array.eq_empty_of_size_eq_zero h0
    rw [e]; simp
  obtain ⟨g0, hg0, hp0⟩ := Option.map_eq_some_iff.mp lg71_0.2.2.2
  simp only [Prod.mk.injEq] at hp0
  cases hfc : lW71.code with
  | none => rw [hfc] at fc; cases fc
  | some x =>
    cases hbc : b.code with
    | none => simp [hfc, hbc] at hcode
    | some y =>
      simp only [hfc, hbc, Bool.and_eq_true, decide_eq_true_eq] at hcode
      simp only [hfc, Option.map_some, Option.some.injEq, Prod.mk.injEq] at fc
      refine ⟨k, tk, file, b, y, tc, target, g0, hk, by rw [hrec.1, hname]; rfl, hfile, hpool.2.1, by simp [Vm.method?, hk, hb], hbc, ?_, by rw [← hcode.1.1.1.1.2.1]; exact fc.2, ?_, by rw [← hfl]; exact ff.1, by rw [← hsig]; exact ff.2.2, ht, htk, hitf, hg,
        ⟨k, hk, hres 22 _ (Lambda.resolvedOf_method lm71.1 lm71.2.1 ht htk lm71.2.2 hg)⟩, ⟨k, hk, hres 19 _ (Lambda.resolvedOf_class lk71.1 lk71.2.2 lk71.2.1 ht)⟩, hit,
        ⟨k, 0, k, hk, hres 15 _ (Lambda.resolvedOf_field lg71_0.1 lg71_0.2.1 lg71_0.2.2.1), hk, hfields 0 _ hg0⟩, hp0.1, hp0.2⟩
      · rw [← hcode.1.1.1.1.2.2]
        exact ByteArray.ext fc.1
      · simp [Method.locks, Method.isSynchronized, ← hfl, ff.1, hasFlag, Acc.synchronized]
theorem ld71_0 : decode lC71 0 = .ok (.aload_n 0, 1) := by decide +kernel
theorem ld71_1 : decode lC71 1 = .ok (.getfield 15, 3) := by decide +kernel
theorem ld71_4 : decode lC71 4 = .ok (.aload_n 1, 1) := by decide +kernel
theorem ld71_5 : decode lC71 5 = .ok (.invokevirtual 22, 3) := by decide +kernel
theorem ld71_8 : decode lC71 8 = .ok (.ireturn, 1) := by decide +kernel
def sg72 : Lambda.Shape := xsh "PolicyNotation$Asked" "is" "PolicyNotation$Rule" .boolean [.int] 6 "PolicyNotation" "lambda$scopeOf$0" [.int, .object "PolicyNotation$Rule"]
theorem sg72_in : ∃ x pc ix, (x, pc, ix, sg72, 72) ∈ xsites := ⟨_, _, _, List.mem_of_getElem? (i := 1) rfl⟩
def lC72 : ByteArray := ⟨#[0x2a, 0xb4, 0x00, 0x0f, 0x2b, 0xb8, 0x00, 0x17, 0xac]⟩
def lD72 : ClassFile := (sg72.file "PolicyNotation").getD lNone
def lW72 : Method := ((layoutMethods lD72).bind (·[1]?)).getD default
def lL72 : Array Field × Array FieldType × Array FieldType := (layoutFields lD72 0).getD (#[], #[], #[])
theorem lD72_is : sg72.file "PolicyNotation" = some lD72 := by
  have h : (sg72.file "PolicyNotation").isSome = true := by decide +kernel
  obtain ⟨x, hx⟩ := Option.isSome_iff_exists.mp h
  simp [lD72, hx]
theorem lW72_is : ∀ ms, layoutMethods lD72 = some ms → ms[1]? = some lW72 := by
  intro ms hms
  have h : ((layoutMethods lD72).bind (·[1]?)).isSome = true := by decide +kernel
  obtain ⟨x, hx⟩ := Option.isSome_iff_exists.mp h
  have hf : lW72 = x := by simp [lW72, hx]
  rw [hms] at hx
  rw [hf]
  exact hx
theorem lL72_is : layoutFields lD72 0 = some lL72 := by
  have h : (layoutFields lD72 0).isSome = true := by decide +kernel
  obtain ⟨x, hx⟩ := Option.isSome_iff_exists.mp h
  simp [lL72, hx]
theorem lc72 : (lW72.code.map fun c => (c.code.data, c.maxLocals)) = some (lC72.data, 2) := by decide +kernel
theorem lf72 : (lW72.accessFlags, lW72.name, lW72.sig.returnType) = (0x0001, "is", some (FieldType.boolean : FieldType)) := by decide +kernel
theorem lm72 : lD72.constantPool[23]? = some (.methodref 19 22) ∧ lD72.constantPool.className? 19 = some "PolicyNotation" ∧ lD72.constantPool.nameAndType? 22 = some ("lambda$scopeOf$0", "(ILPolicyNotation$Rule;)Z") := by decide +kernel
theorem lk72 : lD72.constantPool[19]? = some (.class_ 18) ∧ lD72.constantPool.string? 18 = some "PolicyNotation" ∧ 19 ≠ lD72.thisClass := by decide +kernel
theorem lg72_0 : lD72.constantPool[15]? = some (.fieldref 2 14) ∧ lD72.constantPool.nameAndType? 14 = some ("arg$1", "I") ∧ lL72.1.findIdx? (·.name == "arg$1") = some 0 ∧ (lL72.1[0]?).map (fun f => (f.isStatic, f.slot)) = some (false, 0) := by decide +kernel
theorem lF72 {vm : Vm} {d c : ClassId} {dk : Class} (hd : vm.classes[d]? = some dk) (hname : dk.name = "PolicyNotation") (h : Lambda.isMade { classPath := fun _ => none } vm d sg72 c = true) (hO : ∀ o ok, vm.findClass "java/lang/Object" = some o → vm.classes[o]? = some ok → ok.instanceTypes.size = 0) :
    ∃ (k tk : Class) (file : ClassFile) (methk : Method) (ck : Code) (tc : ClassId) (t : MethodId) (f0 : Field),
      vm.classes[c]? = some k ∧ k.name = "PolicyNotation$$Lambda" ∧ k.cf = some file ∧ file.constantPool = lD72.constantPool ∧
      vm.method? ⟨c, 1⟩ = some methk ∧ methk.code = some ck ∧ ck.code = lC72 ∧ ck.maxLocals = 2 ∧ methk.locks = false ∧ methk.accessFlags = 0x0001 ∧ methk.sig.returnType = some (FieldType.boolean) ∧
      vm.findClass "PolicyNotation" = some tc ∧ vm.classes[tc]? = some tk ∧ tk.isInterface = false ∧ ((methodIn tc "lambda$scopeOf$0" "(ILPolicyNotation$Rule;)Z" tk.isInterface none).ask { classPath := fun _ => none } vm).1 = .ok t ∧
      vm.methodReady c 23 t ∧ vm.classReady c 19 tc ∧ k.instanceTypes = lL72.2.1 ∧ vm.fieldReady c 15 c f0 ∧ f0.isStatic = false ∧ f0.slot = 0 := by
  obtain ⟨dk', k, ok, tk, file, cf, object, iface, tc, lay, methods, target, found, hd', hk, hfile, hcf, hobj, -, hok, hlay, hms, ht, htk, hg, -, hrec, -, -, -, hitf, hpool, hmeth, hfields, hin, hres, -⟩ := Lambda.isMade_spec h
  cases hd.symm.trans hd'
  rw [hname, lD72_is] at hcf
  cases hcf
  have h0 := hO object ok hobj hok
  rw [h0, lL72_is] at hlay
  cases hlay
  obtain ⟨b, hb, hsame⟩ := hmeth 1 lW72 (lW72_is methods hms)
  simp only [Lambda.sameMethod, Bool.and_eq_true, decide_eq_true_eq] at hsame
  obtain ⟨⟨hn, -, hsig, hfl⟩, hcode⟩ := hsame
  have fc := lc72
  have ff := lf72
  simp only [Prod.mk.injEq] at ff
  have hit : k.instanceTypes = lL72.2.1 := by
    rw [hin.1]
    have e : ok.instanceTypes = #[] := Array.eq_empty_of_size_eq_zero h0
    rw [e]; simp
  obtain ⟨g0, hg0, hp0⟩ := Option.map_eq_some_iff.mp lg72_0.2.2.2
  simp only [Prod.mk.injEq] at hp0
  cases hfc : lW72.code with
  | none => rw [hfc] at fc; cases fc
  | some x =>
    cases hbc : b.code with
    | none => simp [hfc, hbc] at hcode
    | some y =>
      simp only [hfc, hbc, Bool.and_eq_true, decide_eq_true_eq] at hcode
      simp only [hfc, Option.map_some, Option.some.injEq, Prod.mk.injEq] at fc
      refine ⟨k, tk, file, b, y, tc, target, g0, hk, by rw [hrec.1, hname]; rfl, hfile, hpool.2.1, by simp [Vm.method?, hk, hb], hbc, ?_, by rw [← hcode.1.1.1.1.2.1]; exact fc.2, ?_, by rw [← hfl]; exact ff.1, by rw [← hsig]; exact ff.2.2, ht, htk, hitf, hg,
        ⟨k, hk, hres 23 _ (Lambda.resolvedOf_method lm72.1 lm72.2.1 ht htk lm72.2.2 hg)⟩, ⟨k, hk, hres 19 _ (Lambda.resolvedOf_class lk72.1 lk72.2.2 lk72.2.1 ht)⟩, hit,
        ⟨k, 0, k, hk, hres 15 _ (Lambda.resolvedOf_field lg72_0.1 lg72_0.2.1 lg72_0.2.2.1), hk, hfields 0 _ hg0⟩, hp0.1, hp0.2⟩
      · rw [← hcode.1.1.1.1.2.2]
        exact ByteArray.ext fc.1
      · simp [Method.locks, Method.isSynchronized, ← hfl, ff.1, hasFlag, Acc.synchronized]
theorem ld72_0 : decode lC72 0 = .ok (.aload_n 0, 1) := by decide +kernel
theorem ld72_1 : decode lC72 1 = .ok (.getfield 15, 3) := by decide +kernel
theorem ld72_4 : decode lC72 4 = .ok (.aload_n 1, 1) := by decide +kernel
theorem ld72_5 : decode lC72 5 = .ok (.invokestatic 23, 3) := by decide +kernel
theorem ld72_8 : decode lC72 8 = .ok (.ireturn, 1) := by decide +kernel
def sg73 : Lambda.Shape := xsh "PolicyNotation$Counted" "of" "PolicyNotation$Rule" .int [.object "PolicyNotation$Asked"] 6 "PolicyNotation$Policy" "lambda$count$0" [.object "PolicyNotation$Asked", .object "PolicyNotation$Rule"]
theorem sg73_in : ∃ x pc ix, (x, pc, ix, sg73, 73) ∈ xsites := ⟨_, _, _, List.mem_of_getElem? (i := 2) rfl⟩
def lC73 : ByteArray := ⟨#[0x2a, 0xb4, 0x00, 0x0f, 0x2b, 0xb8, 0x00, 0x17, 0xac]⟩
def lD73 : ClassFile := (sg73.file "PolicyNotation$Policy").getD lNone
def lW73 : Method := ((layoutMethods lD73).bind (·[1]?)).getD default
def lL73 : Array Field × Array FieldType × Array FieldType := (layoutFields lD73 0).getD (#[], #[], #[])
theorem lD73_is : sg73.file "PolicyNotation$Policy" = some lD73 := by
  have h : (sg73.file "PolicyNotation$Policy").isSome = true := by decide +kernel
  obtain ⟨x, hx⟩ := Option.isSome_iff_exists.mp h
  simp [lD73, hx]
theorem lW73_is : ∀ ms, layoutMethods lD73 = some ms → ms[1]? = some lW73 := by
  intro ms hms
  have h : ((layoutMethods lD73).bind (·[1]?)).isSome = true := by decide +kernel
  obtain ⟨x, hx⟩ := Option.isSome_iff_exists.mp h
  have hf : lW73 = x := by simp [lW73, hx]
  rw [hms] at hx
  rw [hf]
  exact hx
theorem lL73_is : layoutFields lD73 0 = some lL73 := by
  have h : (layoutFields lD73 0).isSome = true := by decide +kernel
  obtain ⟨x, hx⟩ := Option.isSome_iff_exists.mp h
  simp [lL73, hx]
theorem lc73 : (lW73.code.map fun c => (c.code.data, c.maxLocals)) = some (lC73.data, 2) := by decide +kernel
theorem lf73 : (lW73.accessFlags, lW73.name, lW73.sig.returnType) = (0x0001, "of", some (FieldType.int : FieldType)) := by decide +kernel
theorem lm73 : lD73.constantPool[23]? = some (.methodref 19 22) ∧ lD73.constantPool.className? 19 = some "PolicyNotation$Policy" ∧ lD73.constantPool.nameAndType? 22 = some ("lambda$count$0", "(LPolicyNotation$Asked;LPolicyNotation$Rule;)I") := by decide +kernel
theorem lk73 : lD73.constantPool[19]? = some (.class_ 18) ∧ lD73.constantPool.string? 18 = some "PolicyNotation$Policy" ∧ 19 ≠ lD73.thisClass := by decide +kernel
theorem lg73_0 : lD73.constantPool[15]? = some (.fieldref 2 14) ∧ lD73.constantPool.nameAndType? 14 = some ("arg$1", "LPolicyNotation$Asked;") ∧ lL73.1.findIdx? (·.name == "arg$1") = some 0 ∧ (lL73.1[0]?).map (fun f => (f.isStatic, f.slot)) = some (false, 0) := by decide +kernel
theorem lF73 {vm : Vm} {d c : ClassId} {dk : Class} (hd : vm.classes[d]? = some dk) (hname : dk.name = "PolicyNotation$Policy") (h : Lambda.isMade { classPath := fun _ => none } vm d sg73 c = true) (hO : ∀ o ok, vm.findClass "java/lang/Object" = some o → vm.classes[o]? = some ok → ok.instanceTypes.size = 0) :
    ∃ (k tk : Class) (file : ClassFile) (methk : Method) (ck : Code) (tc : ClassId) (t : MethodId) (f0 : Field),
      vm.classes[c]? = some k ∧ k.name = "PolicyNotation$Policy$$Lambda" ∧ k.cf = some file ∧ file.constantPool = lD73.constantPool ∧
      vm.method? ⟨c, 1⟩ = some methk ∧ methk.code = some ck ∧ ck.code = lC73 ∧ ck.maxLocals = 2 ∧ methk.locks = false ∧ methk.accessFlags = 0x0001 ∧ methk.sig.returnType = some (FieldType.int) ∧
      vm.findClass "PolicyNotation$Policy" = some tc ∧ vm.classes[tc]? = some tk ∧ tk.isInterface = false ∧ ((methodIn tc "lambda$count$0" "(LPolicyNotation$Asked;LPolicyNotation$Rule;)I" tk.isInterface none).ask { classPath := fun _ => none } vm).1 = .ok t ∧
      vm.methodReady c 23 t ∧ vm.classReady c 19 tc ∧ k.instanceTypes = lL73.2.1 ∧ vm.fieldReady c 15 c f0 ∧ f0.isStatic = false ∧ f0.slot = 0 := by
  obtain ⟨dk', k, ok, tk, file, cf, object, iface, tc, lay, methods, target, found, hd', hk, hfile, hcf, hobj, -, hok, hlay, hms, ht, htk, hg, -, hrec, -, -, -, hitf, hpool, hmeth, hfields, hin, hres, -⟩ := Lambda.isMade_spec h
  cases hd.symm.trans hd'
  rw [hname, lD73_is] at hcf
  cases hcf
  have h0 := hO object ok hobj hok
  rw [h0, lL73_is] at hlay
  cases hlay
  obtain ⟨b, hb, hsame⟩ := hmeth 1 lW73 (lW73_is methods hms)
  simp only [Lambda.sameMethod, Bool.and_eq_true, decide_eq_true_eq] at hsame
  obtain ⟨⟨hn, -, hsig, hfl⟩, hcode⟩ := hsame
  have fc := lc73
  have ff := lf73
  simp only [Prod.mk.injEq] at ff
  have hit : k.instanceTypes = lL73.2.1 := by
    rw [hin.1]
    have e : ok.instanceTypes = #[] := Array.eq_empty_of_size_eq_zero h0
    rw [e]; simp
  obtain ⟨g0, hg0, hp0⟩ := Option.map_eq_some_iff.mp lg73_0.2.2.2
  simp only [Prod.mk.injEq] at hp0
  cases hfc : lW73.code with
  | none => rw [hfc] at fc; cases fc
  | some x =>
    cases hbc : b.code with
    | none => simp [hfc, hbc] at hcode
    | some y =>
      simp only [hfc, hbc, Bool.and_eq_true, decide_eq_true_eq] at hcode
      simp only [hfc, Option.map_some, Option.some.injEq, Prod.mk.injEq] at fc
      refine ⟨k, tk, file, b, y, tc, target, g0, hk, by rw [hrec.1, hname]; rfl, hfile, hpool.2.1, by simp [Vm.method?, hk, hb], hbc, ?_, by rw [← hcode.1.1.1.1.2.1]; exact fc.2, ?_, by rw [← hfl]; exact ff.1, by rw [← hsig]; exact ff.2.2, ht, htk, hitf, hg,
        ⟨k, hk, hres 23 _ (Lambda.resolvedOf_method lm73.1 lm73.2.1 ht htk lm73.2.2 hg)⟩, ⟨k, hk, hres 19 _ (Lambda.resolvedOf_class lk73.1 lk73.2.2 lk73.2.1 ht)⟩, hit,
        ⟨k, 0, k, hk, hres 15 _ (Lambda.resolvedOf_field lg73_0.1 lg73_0.2.1 lg73_0.2.2.1), hk, hfields 0 _ hg0⟩, hp0.1, hp0.2⟩
      · rw [← hcode.1.1.1.1.2.2]
        exact ByteArray.ext fc.1
      · simp [Method.locks, Method.isSynchronized, ← hfl, ff.1, hasFlag, Acc.synchronized]
theorem ld73_0 : decode lC73 0 = .ok (.aload_n 0, 1) := by decide +kernel
theorem ld73_1 : decode lC73 1 = .ok (.getfield 15, 3) := by decide +kernel
theorem ld73_4 : decode lC73 4 = .ok (.aload_n 1, 1) := by decide +kernel
theorem ld73_5 : decode lC73 5 = .ok (.invokestatic 23, 3) := by decide +kernel
theorem ld73_8 : decode lC73 8 = .ok (.ireturn, 1) := by decide +kernel
def sg74 : Lambda.Shape := xsh "PolicyNotation$Asked" "is" "PolicyNotation$Rule" .boolean [.int] 6 "PolicyNotation" "lambda$ruleOf$1" [.int, .object "PolicyNotation$Rule"]
theorem sg74_in : ∃ x pc ix, (x, pc, ix, sg74, 74) ∈ xsites := ⟨_, _, _, List.mem_of_getElem? (i := 3) rfl⟩
def lC74 : ByteArray := ⟨#[0x2a, 0xb4, 0x00, 0x0f, 0x2b, 0xb8, 0x00, 0x17, 0xac]⟩
def lD74 : ClassFile := (sg74.file "PolicyNotation").getD lNone
def lW74 : Method := ((layoutMethods lD74).bind (·[1]?)).getD default
def lL74 : Array Field × Array FieldType × Array FieldType := (layoutFields lD74 0).getD (#[], #[], #[])
theorem lD74_is : sg74.file "PolicyNotation" = some lD74 := by
  have h : (sg74.file "PolicyNotation").isSome = true := by decide +kernel
  obtain ⟨x, hx⟩ := Option.isSome_iff_exists.mp h
  simp [lD74, hx]
theorem lW74_is : ∀ ms, layoutMethods lD74 = some ms → ms[1]? = some lW74 := by
  intro ms hms
  have h : ((layoutMethods lD74).bind (·[1]?)).isSome = true := by decide +kernel
  obtain ⟨x, hx⟩ := Option.isSome_iff_exists.mp h
  have hf : lW74 = x := by simp [lW74, hx]
  rw [hms] at hx
  rw [hf]
  exact hx
theorem lL74_is : layoutFields lD74 0 = some lL74 := by
  have h : (layoutFields lD74 0).isSome = true := by decide +kernel
  obtain ⟨x, hx⟩ := Option.isSome_iff_exists.mp h
  simp [lL74, hx]
theorem lc74 : (lW74.code.map fun c => (c.code.data, c.maxLocals)) = some (lC74.data, 2) := by decide +kernel
theorem lf74 : (lW74.accessFlags, lW74.name, lW74.sig.returnType) = (0x0001, "is", some (FieldType.boolean : FieldType)) := by decide +kernel
theorem lm74 : lD74.constantPool[23]? = some (.methodref 19 22) ∧ lD74.constantPool.className? 19 = some "PolicyNotation" ∧ lD74.constantPool.nameAndType? 22 = some ("lambda$ruleOf$1", "(ILPolicyNotation$Rule;)Z") := by decide +kernel
theorem lk74 : lD74.constantPool[19]? = some (.class_ 18) ∧ lD74.constantPool.string? 18 = some "PolicyNotation" ∧ 19 ≠ lD74.thisClass := by decide +kernel
theorem lg74_0 : lD74.constantPool[15]? = some (.fieldref 2 14) ∧ lD74.constantPool.nameAndType? 14 = some ("arg$1", "I") ∧ lL74.1.findIdx? (·.name == "arg$1") = some 0 ∧ (lL74.1[0]?).map (fun f => (f.isStatic, f.slot)) = some (false, 0) := by decide +kernel
theorem lF74 {vm : Vm} {d c : ClassId} {dk : Class} (hd : vm.classes[d]? = some dk) (hname : dk.name = "PolicyNotation") (h : Lambda.isMade { classPath := fun _ => none } vm d sg74 c = true) (hO : ∀ o ok, vm.findClass "java/lang/Object" = some o → vm.classes[o]? = some ok → ok.instanceTypes.size = 0) :
    ∃ (k tk : Class) (file : ClassFile) (methk : Method) (ck : Code) (tc : ClassId) (t : MethodId) (f0 : Field),
      vm.classes[c]? = some k ∧ k.name = "PolicyNotation$$Lambda" ∧ k.cf = some file ∧ file.constantPool = lD74.constantPool ∧
      vm.method? ⟨c, 1⟩ = some methk ∧ methk.code = some ck ∧ ck.code = lC74 ∧ ck.maxLocals = 2 ∧ methk.locks = false ∧ methk.accessFlags = 0x0001 ∧ methk.sig.returnType = some (FieldType.boolean) ∧
      vm.findClass "PolicyNotation" = some tc ∧ vm.classes[tc]? = some tk ∧ tk.isInterface = false ∧ ((methodIn tc "lambda$ruleOf$1" "(ILPolicyNotation$Rule;)Z" tk.isInterface none).ask { classPath := fun _ => none } vm).1 = .ok t ∧
      vm.methodReady c 23 t ∧ vm.classReady c 19 tc ∧ k.instanceTypes = lL74.2.1 ∧ vm.fieldReady c 15 c f0 ∧ f0.isStatic = false ∧ f0.slot = 0 := by
  obtain ⟨dk', k, ok, tk, file, cf, object, iface, tc, lay, methods, target, found, hd', hk, hfile, hcf, hobj, -, hok, hlay, hms, ht, htk, hg, -, hrec, -, -, -, hitf, hpool, hmeth, hfields, hin, hres, -⟩ := Lambda.isMade_spec h
  cases hd.symm.trans hd'
  rw [hname, lD74_is] at hcf
  cases hcf
  have h0 := hO object ok hobj hok
  rw [h0, lL74_is] at hlay
  cases hlay
  obtain ⟨b, hb, hsame⟩ := hmeth 1 lW74 (lW74_is methods hms)
  simp only [Lambda.sameMethod, Bool.and_eq_true, decide_eq_true_eq] at hsame
  obtain ⟨⟨hn, -, hsig, hfl⟩, hcode⟩ := hsame
  have fc := lc74
  have ff := lf74
  simp only [Prod.mk.injEq] at ff
  have hit : k.instanceTypes = lL74.2.1 := by
    rw [hin.1]
    have e : ok.instanceTypes = #[] := Array.eq_empty_of_size_eq_zero h0
    rw [e]; simp
  obtain ⟨g0, hg0, hp0⟩ := Option.map_eq_some_iff.mp lg74_0.2.2.2
  simp only [Prod.mk.injEq] at hp0
  cases hfc : lW74.code with
  | none => rw [hfc] at fc; cases fc
  | some x =>
    cases hbc : b.code with
    | none => simp [hfc, hbc] at hcode
    | some y =>
      simp only [hfc, hbc, Bool.and_eq_true, decide_eq_true_eq] at hcode
      simp only [hfc, Option.map_some, Option.some.injEq, Prod.mk.injEq] at fc
      refine ⟨k, tk, file, b, y, tc, target, g0, hk, by rw [hrec.1, hname]; rfl, hfile, hpool.2.1, by simp [Vm.method?, hk, hb], hbc, ?_, by rw [← hcode.1.1.1.1.2.1]; exact fc.2, ?_, by rw [← hfl]; exact ff.1, by rw [← hsig]; exact ff.2.2, ht, htk, hitf, hg,
        ⟨k, hk, hres 23 _ (Lambda.resolvedOf_method lm74.1 lm74.2.1 ht htk lm74.2.2 hg)⟩, ⟨k, hk, hres 19 _ (Lambda.resolvedOf_class lk74.1 lk74.2.2 lk74.2.1 ht)⟩, hit,
        ⟨k, 0, k, hk, hres 15 _ (Lambda.resolvedOf_field lg74_0.1 lg74_0.2.1 lg74_0.2.2.1), hk, hfields 0 _ hg0⟩, hp0.1, hp0.2⟩
      · rw [← hcode.1.1.1.1.2.2]
        exact ByteArray.ext fc.1
      · simp [Method.locks, Method.isSynchronized, ← hfl, ff.1, hasFlag, Acc.synchronized]
theorem ld74_0 : decode lC74 0 = .ok (.aload_n 0, 1) := by decide +kernel
theorem ld74_1 : decode lC74 1 = .ok (.getfield 15, 3) := by decide +kernel
theorem ld74_4 : decode lC74 4 = .ok (.aload_n 1, 1) := by decide +kernel
theorem ld74_5 : decode lC74 5 = .ok (.invokestatic 23, 3) := by decide +kernel
theorem ld74_8 : decode lC74 8 = .ok (.ireturn, 1) := by decide +kernel
def sg75 : Lambda.Shape := xsh "PolicyNotation$Told" "of" "PolicyNotation$Work" .int [.object "PolicyNotation", .int] 5 "PolicyNotation" "lambda$without$2" [.int, .object "PolicyNotation$Work"]
theorem sg75_in : ∃ x pc ix, (x, pc, ix, sg75, 75) ∈ xsites := ⟨_, _, _, List.mem_of_getElem? (i := 4) rfl⟩
def lC75 : ByteArray := ⟨#[0x2a, 0xb4, 0x00, 0x11, 0x2a, 0xb4, 0x00, 0x13, 0x2b, 0xb6, 0x00, 0x1b, 0xac]⟩
def lD75 : ClassFile := (sg75.file "PolicyNotation").getD lNone
def lW75 : Method := ((layoutMethods lD75).bind (·[1]?)).getD default
def lL75 : Array Field × Array FieldType × Array FieldType := (layoutFields lD75 0).getD (#[], #[], #[])
theorem lD75_is : sg75.file "PolicyNotation" = some lD75 := by
  have h : (sg75.file "PolicyNotation").isSome = true := by decide +kernel
  obtain ⟨x, hx⟩ := Option.isSome_iff_exists.mp h
  simp [lD75, hx]
theorem lW75_is : ∀ ms, layoutMethods lD75 = some ms → ms[1]? = some lW75 := by
  intro ms hms
  have h : ((layoutMethods lD75).bind (·[1]?)).isSome = true := by decide +kernel
  obtain ⟨x, hx⟩ := Option.isSome_iff_exists.mp h
  have hf : lW75 = x := by simp [lW75, hx]
  rw [hms] at hx
  rw [hf]
  exact hx
theorem lL75_is : layoutFields lD75 0 = some lL75 := by
  have h : (layoutFields lD75 0).isSome = true := by decide +kernel
  obtain ⟨x, hx⟩ := Option.isSome_iff_exists.mp h
  simp [lL75, hx]
theorem lc75 : (lW75.code.map fun c => (c.code.data, c.maxLocals)) = some (lC75.data, 2) := by decide +kernel
theorem lf75 : (lW75.accessFlags, lW75.name, lW75.sig.returnType) = (0x0001, "of", some (FieldType.int : FieldType)) := by decide +kernel
theorem lm75 : lD75.constantPool[27]? = some (.methodref 23 26) ∧ lD75.constantPool.className? 23 = some "PolicyNotation" ∧ lD75.constantPool.nameAndType? 26 = some ("lambda$without$2", "(ILPolicyNotation$Work;)I") := by decide +kernel
theorem lk75 : lD75.constantPool[23]? = some (.class_ 22) ∧ lD75.constantPool.string? 22 = some "PolicyNotation" ∧ 23 ≠ lD75.thisClass := by decide +kernel
theorem lg75_0 : lD75.constantPool[17]? = some (.fieldref 2 16) ∧ lD75.constantPool.nameAndType? 16 = some ("arg$1", "LPolicyNotation;") ∧ lL75.1.findIdx? (·.name == "arg$1") = some 0 ∧ (lL75.1[0]?).map (fun f => (f.isStatic, f.slot)) = some (false, 0) := by decide +kernel
theorem lg75_1 : lD75.constantPool[19]? = some (.fieldref 2 18) ∧ lD75.constantPool.nameAndType? 18 = some ("arg$2", "I") ∧ lL75.1.findIdx? (·.name == "arg$2") = some 1 ∧ (lL75.1[1]?).map (fun f => (f.isStatic, f.slot)) = some (false, 1) := by decide +kernel
theorem lF75 {vm : Vm} {d c : ClassId} {dk : Class} (hd : vm.classes[d]? = some dk) (hname : dk.name = "PolicyNotation") (h : Lambda.isMade { classPath := fun _ => none } vm d sg75 c = true) (hO : ∀ o ok, vm.findClass "java/lang/Object" = some o → vm.classes[o]? = some ok → ok.instanceTypes.size = 0) :
    ∃ (k tk : Class) (file : ClassFile) (methk : Method) (ck : Code) (tc : ClassId) (t : MethodId) (f0 : Field) (f1 : Field),
      vm.classes[c]? = some k ∧ k.name = "PolicyNotation$$Lambda" ∧ k.cf = some file ∧ file.constantPool = lD75.constantPool ∧
      vm.method? ⟨c, 1⟩ = some methk ∧ methk.code = some ck ∧ ck.code = lC75 ∧ ck.maxLocals = 2 ∧ methk.locks = false ∧ methk.accessFlags = 0x0001 ∧ methk.sig.returnType = some (FieldType.int) ∧
      vm.findClass "PolicyNotation" = some tc ∧ vm.classes[tc]? = some tk ∧ tk.isInterface = false ∧ ((methodIn tc "lambda$without$2" "(ILPolicyNotation$Work;)I" tk.isInterface none).ask { classPath := fun _ => none } vm).1 = .ok t ∧
      vm.methodReady c 27 t ∧ vm.classReady c 23 tc ∧ k.instanceTypes = lL75.2.1 ∧ vm.fieldReady c 17 c f0 ∧ f0.isStatic = false ∧ f0.slot = 0 ∧ vm.fieldReady c 19 c f1 ∧ f1.isStatic = false ∧ f1.slot = 1 := by
  obtain ⟨dk', k, ok, tk, file, cf, object, iface, tc, lay, methods, target, found, hd', hk, hfile, hcf, hobj, -, hok, hlay, hms, ht, htk, hg, -, hrec, -, -, -, hitf, hpool, hmeth, hfields, hin, hres, -⟩ := Lambda.isMade_spec h
  cases hd.symm.trans hd'
  rw [hname, lD75_is] at hcf
  cases hcf
  have h0 := hO object ok hobj hok
  rw [h0, lL75_is] at hlay
  cases hlay
  obtain ⟨b, hb, hsame⟩ := hmeth 1 lW75 (lW75_is methods hms)
  simp only [Lambda.sameMethod, Bool.and_eq_true, decide_eq_true_eq] at hsame
  obtain ⟨⟨hn, -, hsig, hfl⟩, hcode⟩ := hsame
  have fc := lc75
  have ff := lf75
  simp only [Prod.mk.injEq] at ff
  have hit : k.instanceTypes = lL75.2.1 := by
    rw [hin.1]
    have e : ok.instanceTypes = #[] := Array.eq_empty_of_size_eq_zero h0
    rw [e]; simp
  obtain ⟨g0, hg0, hp0⟩ := Option.map_eq_some_iff.mp lg75_0.2.2.2
  simp only [Prod.mk.injEq] at hp0
  obtain ⟨g1, hg1, hp1⟩ := Option.map_eq_some_iff.mp lg75_1.2.2.2
  simp only [Prod.mk.injEq] at hp1
  cases hfc : lW75.code with
  | none => rw [hfc] at fc; cases fc
  | some x =>
    cases hbc : b.code with
    | none => simp [hfc, hbc] at hcode
    | some y =>
      simp only [hfc, hbc, Bool.and_eq_true, decide_eq_true_eq] at hcode
      simp only [hfc, Option.map_some, Option.some.injEq, Prod.mk.injEq] at fc
      refine ⟨k, tk, file, b, y, tc, target, g0, g1, hk, by rw [hrec.1, hname]; rfl, hfile, hpool.2.1, by simp [Vm.method?, hk, hb], hbc, ?_, by rw [← hcode.1.1.1.1.2.1]; exact fc.2, ?_, by rw [← hfl]; exact ff.1, by rw [← hsig]; exact ff.2.2, ht, htk, hitf, hg,
        ⟨k, hk, hres 27 _ (Lambda.resolvedOf_method lm75.1 lm75.2.1 ht htk lm75.2.2 hg)⟩, ⟨k, hk, hres 23 _ (Lambda.resolvedOf_class lk75.1 lk75.2.2 lk75.2.1 ht)⟩, hit,
        ⟨k, 0, k, hk, hres 17 _ (Lambda.resolvedOf_field lg75_0.1 lg75_0.2.1 lg75_0.2.2.1), hk, hfields 0 _ hg0⟩, hp0.1, hp0.2,
        ⟨k, 1, k, hk, hres 19 _ (Lambda.resolvedOf_field lg75_1.1 lg75_1.2.1 lg75_1.2.2.1), hk, hfields 1 _ hg1⟩, hp1.1, hp1.2⟩
      · rw [← hcode.1.1.1.1.2.2]
        exact ByteArray.ext fc.1
      · simp [Method.locks, Method.isSynchronized, ← hfl, ff.1, hasFlag, Acc.synchronized]
theorem ld75_0 : decode lC75 0 = .ok (.aload_n 0, 1) := by decide +kernel
theorem ld75_1 : decode lC75 1 = .ok (.getfield 17, 3) := by decide +kernel
theorem ld75_4 : decode lC75 4 = .ok (.aload_n 0, 1) := by decide +kernel
theorem ld75_5 : decode lC75 5 = .ok (.getfield 19, 3) := by decide +kernel
theorem ld75_8 : decode lC75 8 = .ok (.aload_n 1, 1) := by decide +kernel
theorem ld75_9 : decode lC75 9 = .ok (.invokevirtual 27, 3) := by decide +kernel
theorem ld75_12 : decode lC75 12 = .ok (.ireturn, 1) := by decide +kernel
def sg76 : Lambda.Shape := xsh "PolicyNotation$Asked" "is" "PolicyNotation$Rule" .boolean [] 6 "PolicyNotation" "lambda$account$3" [.object "PolicyNotation$Rule"]
theorem sg76_in : ∃ x pc ix, (x, pc, ix, sg76, 76) ∈ xsites := ⟨_, _, _, List.mem_of_getElem? (i := 5) rfl⟩
def lC76 : ByteArray := ⟨#[0x2b, 0xb8, 0x00, 0x11, 0xac]⟩
def lD76 : ClassFile := (sg76.file "PolicyNotation").getD lNone
def lW76 : Method := ((layoutMethods lD76).bind (·[1]?)).getD default
def lL76 : Array Field × Array FieldType × Array FieldType := (layoutFields lD76 0).getD (#[], #[], #[])
theorem lD76_is : sg76.file "PolicyNotation" = some lD76 := by
  have h : (sg76.file "PolicyNotation").isSome = true := by decide +kernel
  obtain ⟨x, hx⟩ := Option.isSome_iff_exists.mp h
  simp [lD76, hx]
theorem lW76_is : ∀ ms, layoutMethods lD76 = some ms → ms[1]? = some lW76 := by
  intro ms hms
  have h : ((layoutMethods lD76).bind (·[1]?)).isSome = true := by decide +kernel
  obtain ⟨x, hx⟩ := Option.isSome_iff_exists.mp h
  have hf : lW76 = x := by simp [lW76, hx]
  rw [hms] at hx
  rw [hf]
  exact hx
theorem lL76_is : layoutFields lD76 0 = some lL76 := by
  have h : (layoutFields lD76 0).isSome = true := by decide +kernel
  obtain ⟨x, hx⟩ := Option.isSome_iff_exists.mp h
  simp [lL76, hx]
theorem lc76 : (lW76.code.map fun c => (c.code.data, c.maxLocals)) = some (lC76.data, 2) := by decide +kernel
theorem lf76 : (lW76.accessFlags, lW76.name, lW76.sig.returnType) = (0x0001, "is", some (FieldType.boolean : FieldType)) := by decide +kernel
theorem lm76 : lD76.constantPool[17]? = some (.methodref 14 16) ∧ lD76.constantPool.className? 14 = some "PolicyNotation" ∧ lD76.constantPool.nameAndType? 16 = some ("lambda$account$3", "(LPolicyNotation$Rule;)Z") := by decide +kernel
theorem lk76 : lD76.constantPool[14]? = some (.class_ 13) ∧ lD76.constantPool.string? 13 = some "PolicyNotation" ∧ 14 ≠ lD76.thisClass := by decide +kernel
theorem lF76 {vm : Vm} {d c : ClassId} {dk : Class} (hd : vm.classes[d]? = some dk) (hname : dk.name = "PolicyNotation") (h : Lambda.isMade { classPath := fun _ => none } vm d sg76 c = true) (hO : ∀ o ok, vm.findClass "java/lang/Object" = some o → vm.classes[o]? = some ok → ok.instanceTypes.size = 0) :
    ∃ (k tk : Class) (file : ClassFile) (methk : Method) (ck : Code) (tc : ClassId) (t : MethodId) ,
      vm.classes[c]? = some k ∧ k.name = "PolicyNotation$$Lambda" ∧ k.cf = some file ∧ file.constantPool = lD76.constantPool ∧
      vm.method? ⟨c, 1⟩ = some methk ∧ methk.code = some ck ∧ ck.code = lC76 ∧ ck.maxLocals = 2 ∧ methk.locks = false ∧ methk.accessFlags = 0x0001 ∧ methk.sig.returnType = some (FieldType.boolean) ∧
      vm.findClass "PolicyNotation" = some tc ∧ vm.classes[tc]? = some tk ∧ tk.isInterface = false ∧ ((methodIn tc "lambda$account$3" "(LPolicyNotation$Rule;)Z" tk.isInterface none).ask { classPath := fun _ => none } vm).1 = .ok t ∧
      vm.methodReady c 17 t ∧ vm.classReady c 14 tc ∧ k.instanceTypes = lL76.2.1 := by
  obtain ⟨dk', k, ok, tk, file, cf, object, iface, tc, lay, methods, target, found, hd', hk, hfile, hcf, hobj, -, hok, hlay, hms, ht, htk, hg, -, hrec, -, -, -, hitf, hpool, hmeth, hfields, hin, hres, -⟩ := Lambda.isMade_spec h
  cases hd.symm.trans hd'
  rw [hname, lD76_is] at hcf
  cases hcf
  have h0 := hO object ok hobj hok
  rw [h0, lL76_is] at hlay
  cases hlay
  obtain ⟨b, hb, hsame⟩ := hmeth 1 lW76 (lW76_is methods hms)
  simp only [Lambda.sameMethod, Bool.and_eq_true, decide_eq_true_eq] at hsame
  obtain ⟨⟨hn, -, hsig, hfl⟩, hcode⟩ := hsame
  have fc := lc76
  have ff := lf76
  simp only [Prod.mk.injEq] at ff
  have hit : k.instanceTypes = lL76.2.1 := by
    rw [hin.1]
    have e : ok.instanceTypes = #[] := Array.eq_empty_of_size_eq_zero h0
    rw [e]; simp
  cases hfc : lW76.code with
  | none => rw [hfc] at fc; cases fc
  | some x =>
    cases hbc : b.code with
    | none => simp [hfc, hbc] at hcode
    | some y =>
      simp only [hfc, hbc, Bool.and_eq_true, decide_eq_true_eq] at hcode
      simp only [hfc, Option.map_some, Option.some.injEq, Prod.mk.injEq] at fc
      refine ⟨k, tk, file, b, y, tc, target, hk, by rw [hrec.1, hname]; rfl, hfile, hpool.2.1, by simp [Vm.method?, hk, hb], hbc, ?_, by rw [← hcode.1.1.1.1.2.1]; exact fc.2, ?_, by rw [← hfl]; exact ff.1, by rw [← hsig]; exact ff.2.2, ht, htk, hitf, hg,
        ⟨k, hk, hres 17 _ (Lambda.resolvedOf_method lm76.1 lm76.2.1 ht htk lm76.2.2 hg)⟩, ⟨k, hk, hres 14 _ (Lambda.resolvedOf_class lk76.1 lk76.2.2 lk76.2.1 ht)⟩, hit⟩
      · rw [← hcode.1.1.1.1.2.2]
        exact ByteArray.ext fc.1
      · simp [Method.locks, Method.isSynchronized, ← hfl, ff.1, hasFlag, Acc.synchronized]
theorem ld76_0 : decode lC76 0 = .ok (.aload_n 1, 1) := by decide +kernel
theorem ld76_1 : decode lC76 1 = .ok (.invokestatic 17, 3) := by decide +kernel
theorem ld76_4 : decode lC76 4 = .ok (.ireturn, 1) := by decide +kernel
def sg77 : Lambda.Shape := xsh "PolicyNotation$Counted" "of" "PolicyNotation$Rule" .int [] 6 "PolicyNotation" "lambda$account$4" [.object "PolicyNotation$Rule"]
theorem sg77_in : ∃ x pc ix, (x, pc, ix, sg77, 77) ∈ xsites := ⟨_, _, _, List.mem_of_getElem? (i := 6) rfl⟩
def lC77 : ByteArray := ⟨#[0x2b, 0xb8, 0x00, 0x11, 0xac]⟩
def lD77 : ClassFile := (sg77.file "PolicyNotation").getD lNone
def lW77 : Method := ((layoutMethods lD77).bind (·[1]?)).getD default
def lL77 : Array Field × Array FieldType × Array FieldType := (layoutFields lD77 0).getD (#[], #[], #[])
theorem lD77_is : sg77.file "PolicyNotation" = some lD77 := by
  have h : (sg77.file "PolicyNotation").isSome = true := by decide +kernel
  obtain ⟨x, hx⟩ := Option.isSome_iff_exists.mp h
  simp [lD77, hx]
theorem lW77_is : ∀ ms, layoutMethods lD77 = some ms → ms[1]? = some lW77 := by
  intro ms hms
  have h : ((layoutMethods lD77).bind (·[1]?)).isSome = true := by decide +kernel
  obtain ⟨x, hx⟩ := Option.isSome_iff_exists.mp h
  have hf : lW77 = x := by simp [lW77, hx]
  rw [hms] at hx
  rw [hf]
  exact hx
theorem lL77_is : layoutFields lD77 0 = some lL77 := by
  have h : (layoutFields lD77 0).isSome = true := by decide +kernel
  obtain ⟨x, hx⟩ := Option.isSome_iff_exists.mp h
  simp [lL77, hx]
theorem lc77 : (lW77.code.map fun c => (c.code.data, c.maxLocals)) = some (lC77.data, 2) := by decide +kernel
theorem lf77 : (lW77.accessFlags, lW77.name, lW77.sig.returnType) = (0x0001, "of", some (FieldType.int : FieldType)) := by decide +kernel
theorem lm77 : lD77.constantPool[17]? = some (.methodref 14 16) ∧ lD77.constantPool.className? 14 = some "PolicyNotation" ∧ lD77.constantPool.nameAndType? 16 = some ("lambda$account$4", "(LPolicyNotation$Rule;)I") := by decide +kernel
theorem lk77 : lD77.constantPool[14]? = some (.class_ 13) ∧ lD77.constantPool.string? 13 = some "PolicyNotation" ∧ 14 ≠ lD77.thisClass := by decide +kernel
theorem lF77 {vm : Vm} {d c : ClassId} {dk : Class} (hd : vm.classes[d]? = some dk) (hname : dk.name = "PolicyNotation") (h : Lambda.isMade { classPath := fun _ => none } vm d sg77 c = true) (hO : ∀ o ok, vm.findClass "java/lang/Object" = some o → vm.classes[o]? = some ok → ok.instanceTypes.size = 0) :
    ∃ (k tk : Class) (file : ClassFile) (methk : Method) (ck : Code) (tc : ClassId) (t : MethodId) ,
      vm.classes[c]? = some k ∧ k.name = "PolicyNotation$$Lambda" ∧ k.cf = some file ∧ file.constantPool = lD77.constantPool ∧
      vm.method? ⟨c, 1⟩ = some methk ∧ methk.code = some ck ∧ ck.code = lC77 ∧ ck.maxLocals = 2 ∧ methk.locks = false ∧ methk.accessFlags = 0x0001 ∧ methk.sig.returnType = some (FieldType.int) ∧
      vm.findClass "PolicyNotation" = some tc ∧ vm.classes[tc]? = some tk ∧ tk.isInterface = false ∧ ((methodIn tc "lambda$account$4" "(LPolicyNotation$Rule;)I" tk.isInterface none).ask { classPath := fun _ => none } vm).1 = .ok t ∧
      vm.methodReady c 17 t ∧ vm.classReady c 14 tc ∧ k.instanceTypes = lL77.2.1 := by
  obtain ⟨dk', k, ok, tk, file, cf, object, iface, tc, lay, methods, target, found, hd', hk, hfile, hcf, hobj, -, hok, hlay, hms, ht, htk, hg, -, hrec, -, -, -, hitf, hpool, hmeth, hfields, hin, hres, -⟩ := Lambda.isMade_spec h
  cases hd.symm.trans hd'
  rw [hname, lD77_is] at hcf
  cases hcf
  have h0 := hO object ok hobj hok
  rw [h0, lL77_is] at hlay
  cases hlay
  obtain ⟨b, hb, hsame⟩ := hmeth 1 lW77 (lW77_is methods hms)
  simp only [Lambda.sameMethod, Bool.and_eq_true, decide_eq_true_eq] at hsame
  obtain ⟨⟨hn, -, hsig, hfl⟩, hcode⟩ := hsame
  have fc := lc77
  have ff := lf77
  simp only [Prod.mk.injEq] at ff
  have hit : k.instanceTypes = lL77.2.1 := by
    rw [hin.1]
    have e : ok.instanceTypes = #[] := Array.eq_empty_of_size_eq_zero h0
    rw [e]; simp
  cases hfc : lW77.code with
  | none => rw [hfc] at fc; cases fc
  | some x =>
    cases hbc : b.code with
    | none => simp [hfc, hbc] at hcode
    | some y =>
      simp only [hfc, hbc, Bool.and_eq_true, decide_eq_true_eq] at hcode
      simp only [hfc, Option.map_some, Option.some.injEq, Prod.mk.injEq] at fc
      refine ⟨k, tk, file, b, y, tc, target, hk, by rw [hrec.1, hname]; rfl, hfile, hpool.2.1, by simp [Vm.method?, hk, hb], hbc, ?_, by rw [← hcode.1.1.1.1.2.1]; exact fc.2, ?_, by rw [← hfl]; exact ff.1, by rw [← hsig]; exact ff.2.2, ht, htk, hitf, hg,
        ⟨k, hk, hres 17 _ (Lambda.resolvedOf_method lm77.1 lm77.2.1 ht htk lm77.2.2 hg)⟩, ⟨k, hk, hres 14 _ (Lambda.resolvedOf_class lk77.1 lk77.2.2 lk77.2.1 ht)⟩, hit⟩
      · rw [← hcode.1.1.1.1.2.2]
        exact ByteArray.ext fc.1
      · simp [Method.locks, Method.isSynchronized, ← hfl, ff.1, hasFlag, Acc.synchronized]
theorem ld77_0 : decode lC77 0 = .ok (.aload_n 1, 1) := by decide +kernel
theorem ld77_1 : decode lC77 1 = .ok (.invokestatic 17, 3) := by decide +kernel
theorem ld77_4 : decode lC77 4 = .ok (.ireturn, 1) := by decide +kernel
def sg78 : Lambda.Shape := xsh "PolicyNotation$Told" "of" "PolicyNotation$Work" .int [.object "PolicyNotation"] 5 "PolicyNotation" "lambda$account$5" [.object "PolicyNotation$Work"]
theorem sg78_in : ∃ x pc ix, (x, pc, ix, sg78, 78) ∈ xsites := ⟨_, _, _, List.mem_of_getElem? (i := 7) rfl⟩
def lC78 : ByteArray := ⟨#[0x2a, 0xb4, 0x00, 0x0f, 0x2b, 0xb6, 0x00, 0x16, 0xac]⟩
def lD78 : ClassFile := (sg78.file "PolicyNotation").getD lNone
def lW78 : Method := ((layoutMethods lD78).bind (·[1]?)).getD default
def lL78 : Array Field × Array FieldType × Array FieldType := (layoutFields lD78 0).getD (#[], #[], #[])
theorem lD78_is : sg78.file "PolicyNotation" = some lD78 := by
  have h : (sg78.file "PolicyNotation").isSome = true := by decide +kernel
  obtain ⟨x, hx⟩ := Option.isSome_iff_exists.mp h
  simp [lD78, hx]
theorem lW78_is : ∀ ms, layoutMethods lD78 = some ms → ms[1]? = some lW78 := by
  intro ms hms
  have h : ((layoutMethods lD78).bind (·[1]?)).isSome = true := by decide +kernel
  obtain ⟨x, hx⟩ := Option.isSome_iff_exists.mp h
  have hf : lW78 = x := by simp [lW78, hx]
  rw [hms] at hx
  rw [hf]
  exact hx
theorem lL78_is : layoutFields lD78 0 = some lL78 := by
  have h : (layoutFields lD78 0).isSome = true := by decide +kernel
  obtain ⟨x, hx⟩ := Option.isSome_iff_exists.mp h
  simp [lL78, hx]
theorem lc78 : (lW78.code.map fun c => (c.code.data, c.maxLocals)) = some (lC78.data, 2) := by decide +kernel
theorem lf78 : (lW78.accessFlags, lW78.name, lW78.sig.returnType) = (0x0001, "of", some (FieldType.int : FieldType)) := by decide +kernel
theorem lm78 : lD78.constantPool[22]? = some (.methodref 19 21) ∧ lD78.constantPool.className? 19 = some "PolicyNotation" ∧ lD78.constantPool.nameAndType? 21 = some ("lambda$account$5", "(LPolicyNotation$Work;)I") := by decide +kernel
theorem lk78 : lD78.constantPool[19]? = some (.class_ 18) ∧ lD78.constantPool.string? 18 = some "PolicyNotation" ∧ 19 ≠ lD78.thisClass := by decide +kernel
theorem lg78_0 : lD78.constantPool[15]? = some (.fieldref 2 14) ∧ lD78.constantPool.nameAndType? 14 = some ("arg$1", "LPolicyNotation;") ∧ lL78.1.findIdx? (·.name == "arg$1") = some 0 ∧ (lL78.1[0]?).map (fun f => (f.isStatic, f.slot)) = some (false, 0) := by decide +kernel
theorem lF78 {vm : Vm} {d c : ClassId} {dk : Class} (hd : vm.classes[d]? = some dk) (hname : dk.name = "PolicyNotation") (h : Lambda.isMade { classPath := fun _ => none } vm d sg78 c = true) (hO : ∀ o ok, vm.findClass "java/lang/Object" = some o → vm.classes[o]? = some ok → ok.instanceTypes.size = 0) :
    ∃ (k tk : Class) (file : ClassFile) (methk : Method) (ck : Code) (tc : ClassId) (t : MethodId) (f0 : Field),
      vm.classes[c]? = some k ∧ k.name = "PolicyNotation$$Lambda" ∧ k.cf = some file ∧ file.constantPool = lD78.constantPool ∧
      vm.method? ⟨c, 1⟩ = some methk ∧ methk.code = some ck ∧ ck.code = lC78 ∧ ck.maxLocals = 2 ∧ methk.locks = false ∧ methk.accessFlags = 0x0001 ∧ methk.sig.returnType = some (FieldType.int) ∧
      vm.findClass "PolicyNotation" = some tc ∧ vm.classes[tc]? = some tk ∧ tk.isInterface = false ∧ ((methodIn tc "lambda$account$5" "(LPolicyNotation$Work;)I" tk.isInterface none).ask { classPath := fun _ => none } vm).1 = .ok t ∧
      vm.methodReady c 22 t ∧ vm.classReady c 19 tc ∧ k.instanceTypes = lL78.2.1 ∧ vm.fieldReady c 15 c f0 ∧ f0.isStatic = false ∧ f0.slot = 0 := by
  obtain ⟨dk', k, ok, tk, file, cf, object, iface, tc, lay, methods, target, found, hd', hk, hfile, hcf, hobj, -, hok, hlay, hms, ht, htk, hg, -, hrec, -, -, -, hitf, hpool, hmeth, hfields, hin, hres, -⟩ := Lambda.isMade_spec h
  cases hd.symm.trans hd'
  rw [hname, lD78_is] at hcf
  cases hcf
  have h0 := hO object ok hobj hok
  rw [h0, lL78_is] at hlay
  cases hlay
  obtain ⟨b, hb, hsame⟩ := hmeth 1 lW78 (lW78_is methods hms)
  simp only [Lambda.sameMethod, Bool.and_eq_true, decide_eq_true_eq] at hsame
  obtain ⟨⟨hn, -, hsig, hfl⟩, hcode⟩ := hsame
  have fc := lc78
  have ff := lf78
  simp only [Prod.mk.injEq] at ff
  have hit : k.instanceTypes = lL78.2.1 := by
    rw [hin.1]
    have e : ok.instanceTypes = #[] := Array.eq_empty_of_size_eq_zero h0
    rw [e]; simp
  obtain ⟨g0, hg0, hp0⟩ := Option.map_eq_some_iff.mp lg78_0.2.2.2
  simp only [Prod.mk.injEq] at hp0
  cases hfc : lW78.code with
  | none => rw [hfc] at fc; cases fc
  | some x =>
    cases hbc : b.code with
    | none => simp [hfc, hbc] at hcode
    | some y =>
      simp only [hfc, hbc, Bool.and_eq_true, decide_eq_true_eq] at hcode
      simp only [hfc, Option.map_some, Option.some.injEq, Prod.mk.injEq] at fc
      refine ⟨k, tk, file, b, y, tc, target, g0, hk, by rw [hrec.1, hname]; rfl, hfile, hpool.2.1, by simp [Vm.method?, hk, hb], hbc, ?_, by rw [← hcode.1.1.1.1.2.1]; exact fc.2, ?_, by rw [← hfl]; exact ff.1, by rw [← hsig]; exact ff.2.2, ht, htk, hitf, hg,
        ⟨k, hk, hres 22 _ (Lambda.resolvedOf_method lm78.1 lm78.2.1 ht htk lm78.2.2 hg)⟩, ⟨k, hk, hres 19 _ (Lambda.resolvedOf_class lk78.1 lk78.2.2 lk78.2.1 ht)⟩, hit,
        ⟨k, 0, k, hk, hres 15 _ (Lambda.resolvedOf_field lg78_0.1 lg78_0.2.1 lg78_0.2.2.1), hk, hfields 0 _ hg0⟩, hp0.1, hp0.2⟩
      · rw [← hcode.1.1.1.1.2.2]
        exact ByteArray.ext fc.1
      · simp [Method.locks, Method.isSynchronized, ← hfl, ff.1, hasFlag, Acc.synchronized]
theorem ld78_0 : decode lC78 0 = .ok (.aload_n 0, 1) := by decide +kernel
theorem ld78_1 : decode lC78 1 = .ok (.getfield 15, 3) := by decide +kernel
theorem ld78_4 : decode lC78 4 = .ok (.aload_n 1, 1) := by decide +kernel
theorem ld78_5 : decode lC78 5 = .ok (.invokevirtual 22, 3) := by decide +kernel
theorem ld78_8 : decode lC78 8 = .ok (.ireturn, 1) := by decide +kernel
