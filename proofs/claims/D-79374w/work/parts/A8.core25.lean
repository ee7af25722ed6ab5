/-! CORE 25: the way to a lambda's call -/
set_option maxRecDepth 100000
theorem lP71 {p : Program} {l : Launch} {e : Env} {s : State} {H : Heap} {args : Array Value} {a br : Addr} {cell : Cell} {d : ClassId} {dk : Class} {t : MethodId} {cv0 : Addr} (hexec : p.tables.exec = Jvm.exec) (hd : s.vm.classes[d]? = some dk) (hdn : dk.name = "PolicyNotation") (hmade : Lambda.isMade { classPath := fun _ => none } s.vm d sg71 cell.cls = true) (hOb : (Cond.instantiable "java/lang/Object" 0).before args s = true)
    (hcell : H[a]? = some cell) (hvm : cell.vm = .none) (h0 : cell.slots[0]? = some (.ref cv0)) (hy : s.methodNamed? ⟨"PolicyNotation", "chained", "(LPolicyNotation$Work;)I"⟩ = some t) {bytes : ByteArray} {maxL : Nat} {ret : Option FieldType} (hcode : (Cond.code ⟨"PolicyNotation", "chained", "(LPolicyNotation$Work;)I"⟩ bytes maxL ret).before args s = true) (hsel : (Cond.selects "PolicyNotation" ⟨"PolicyNotation", "chained", "(LPolicyNotation$Work;)I"⟩ ⟨"PolicyNotation", "chained", "(LPolicyNotation$Work;)I"⟩).before args s = true) {cellB : Cell} (hB : H[cv0]? = some cellB) (hBo : cellB.vm.isStatics = false) (hBc : s.vm.findClass "PolicyNotation" = some cellB.cls) (hinst : (Cond.instanceMethod ⟨"PolicyNotation", "chained", "(LPolicyNotation$Work;)I"⟩).before args s = true) : vz_P p e l s H cell.cls a br lC71 5 #[(.ref cv0), (.ref br)] t := by
  intro R' s' below' U methk ck Y₀ hH hW hbytes target hrest
  have hal := hW.alike
  obtain ⟨dk₁, hdk₁, hed⟩ := hal.2.2 _ _ hd
  have hO : ∀ o ok, U.vm.findClass "java/lang/Object" = some o → U.vm.classes[o]? = some ok → ok.instanceTypes.size = 0 := fun o ok h1 h2 => by
    obtain ⟨c1, k1, q1, q2, -, -, -, q6⟩ := Cond.instantiable_spec hOb
    rw [hal.findClass] at h1
    cases q1.symm.trans h1
    obtain ⟨k2, q3, q4⟩ := hal.2.2 _ _ q2
    cases q3.symm.trans h2
    rw [q4]; exact q6
  obtain ⟨k, tk, file, methk9, ck9, tc, t9, f0, hk, hkn, hfile, hpool, -, -, -, -, -, -, -, htc, htk, hitf, hlook, hmr, hcr, -, hR0, hS0, hO0⟩ := lF71 hdk₁ (by rw [hed]; exact hdn) (Lambda.isMade_warmer hW hmade) hO
  have hfT : U.vm.findClass "PolicyNotation" = some t.cls := by rw [hal.findClass]; exact findClass_of_methodNamed hy
  have htcl : t.cls = tc := Option.some.inj (hfT.symm.trans htc)
  have ht9 : t9 = t := by
    have h1 : (s.setVm U.vm).methodFound? "PolicyNotation" "chained" "(LPolicyNotation$Work;)I" = some t := by rw [State.methodFound?_setVm hal]; exact State.methodFound?_of_named hy (by decide)
    simp only [State.methodFound?, State.vm_setVm, htc, htk, Option.bind_eq_bind, Option.bind_some] at h1
    rw [hlook] at h1
    exact Option.some.inj h1
  subst ht9
  obtain ⟨mk0, methY, hnamed, hmY0, hnst, habs⟩ := Cond.instanceMethod_spec hinst
  cases hy.symm.trans hnamed
  obtain ⟨c2, r2, m2, q1, q2, q3, q4, -⟩ := Cond.selects_spec hsel
  cases hBc.symm.trans q1
  cases hy.symm.trans q3
  have hr2 : r2 = t9 := by
    have h1 : s.methodFound? "PolicyNotation" "chained" "(LPolicyNotation$Work;)I" = some t9 := State.methodFound?_of_named hy (by decide)
    exact Option.some.inj (q2.symm.trans h1)
  subst hr2
  have hsel9 : selectMethod e.platform U.vm cellB.cls r2 = .method r2 := by rw [Launch.admits_selectMethod Y₀.admits, hal.selectMethod]; exact q4
  obtain ⟨methZ, cT, hmZ, -, -, -, -, -, -, hsigY⟩ := Cond.code_spec hy hcode
  cases hmY0.symm.trans hmZ
  have hpar : methY.sig.parameters.length = 1 := by
    have hl9 : (parseMethodDescriptor "(LPolicyNotation$Work;)I").map (fun d => d.parameters.length) = some 1 := by decide +kernel
    rw [show parseMethodDescriptor "(LPolicyNotation$Work;)I" = some methY.sig from hsigY] at hl9
    exact Option.some.inj hl9
  have hmY : U.vm.method? r2 = some methY := by rw [hal.method?]; exact hmY0
  obtain ⟨kt0, hkt0, hktn⟩ := className_of_methodNamed hy
  obtain ⟨kt, hkt9, hket⟩ := hal.2.2 _ _ hkt0
  have hkt : U.vm.classes[tc]? = some kt := by rw [← htcl]; exact hkt9
  have hktk : tk = kt := Option.some.inj (htk.symm.trans hkt)
  have hnm : kt.name = "PolicyNotation" := by rw [hket]; exact hktn
  have hsp : ∀ z : Method, signaturePolymorphic kt z = false := fun z => by simp [signaturePolymorphic, hnm]
  have hsp0 : ∀ z : Method, signaturePolymorphic tk z = false := by rw [hktk]; exact hsp
  have hkti : kt.isInterface = false := by rw [← hktk]; exact hitf
  have hs : U.topJava?.isSome := Y₀.here.top
  jvm_step Y₀.here [hexec, hbytes, ld71_0, Value.isRef]
  jvm_step Y₀.here [hexec, hbytes, ld71_1, getfield.wp_ready (e := e) (s := U) (c := cell.cls) (field := f0) (a := a) (rest := []) (cell := cell) (v := (.ref cv0)) (f := { method := ⟨cell.cls, 1⟩, pc := 1, locals := #[.val (.ref a), .val (.ref br)], stack := [.ref a], locked := none }) hs hR0 hS0 rfl (by rw [hH]; exact hcell) (by rw [hvm]; intro z; cases z) (by rw [hO0]; exact h0)]
  jvm_step Y₀.here [hexec, hbytes, ld71_4, Value.isRef]
  jvm_step Y₀.here [hexec, hbytes, ld71_5, invokevirtual.wp_ready (e := e) (s := U) (r := r2) (m := r2) (k := kt) (mk := kt) (rmeth := methY) (meth := methY) (a := cv0) (args := [(.ref br)]) (rest := []) (cell := cellB) (f := { method := ⟨cell.cls, 1⟩, pc := 5, locals := #[.val (.ref a), .val (.ref br)], stack := [.ref br, (.ref cv0)], locked := none }) hs ⟨k, file, 19, _, tc, tk, hk, hfile, by rw [hpool]; exact lm71.1, hcr, htk, hitf⟩ hmr (by rw [htcl]; exact hkt) hmY (hsp _) hnst hpar.symm rfl (by rw [hH]; exact hB) (fun z h => by rw [h] at hBo; cases hBo) hsel9 hmY habs (by rw [htcl]; exact hkt) hkti]
  intro acts'
  exact hrest acts'
theorem lP72 {p : Program} {l : Launch} {e : Env} {s : State} {H : Heap} {args : Array Value} {a br : Addr} {cell : Cell} {d : ClassId} {dk : Class} {t : MethodId} {cv0 : Int32} (hexec : p.tables.exec = Jvm.exec) (hd : s.vm.classes[d]? = some dk) (hdn : dk.name = "PolicyNotation") (hmade : Lambda.isMade { classPath := fun _ => none } s.vm d sg72 cell.cls = true) (hOb : (Cond.instantiable "java/lang/Object" 0).before args s = true)
    (hcell : H[a]? = some cell) (hvm : cell.vm = .none) (h0 : cell.slots[0]? = some (.int cv0)) (hy : s.methodNamed? ⟨"PolicyNotation", "lambda$scopeOf$0", "(ILPolicyNotation$Rule;)Z"⟩ = some t) {bytes : ByteArray} {maxL : Nat} {ret : Option FieldType} (hcode : (Cond.code ⟨"PolicyNotation", "lambda$scopeOf$0", "(ILPolicyNotation$Rule;)Z"⟩ bytes maxL ret).before args s = true) (hst : (Cond.static ⟨"PolicyNotation", "lambda$scopeOf$0", "(ILPolicyNotation$Rule;)Z"⟩).before args s = true) (hini : (Cond.initialized "PolicyNotation").before args s = true) : vz_P p e l s H cell.cls a br lC72 5 #[(.int cv0), (.ref br)] t := by
  intro R' s' below' U methk ck Y₀ hH hW hbytes target hrest
  have hal := hW.alike
  obtain ⟨dk₁, hdk₁, hed⟩ := hal.2.2 _ _ hd
  have hO : ∀ o ok, U.vm.findClass "java/lang/Object" = some o → U.vm.classes[o]? = some ok → ok.instanceTypes.size = 0 := fun o ok h1 h2 => by
    obtain ⟨c1, k1, q1, q2, -, -, -, q6⟩ := Cond.instantiable_spec hOb
    rw [hal.findClass] at h1
    cases q1.symm.trans h1
    obtain ⟨k2, q3, q4⟩ := hal.2.2 _ _ q2
    cases q3.symm.trans h2
    rw [q4]; exact q6
  obtain ⟨k, tk, file, methk9, ck9, tc, t9, f0, hk, hkn, hfile, hpool, -, -, -, -, -, -, -, htc, htk, hitf, hlook, hmr, hcr, -, hR0, hS0, hO0⟩ := lF72 hdk₁ (by rw [hed]; exact hdn) (Lambda.isMade_warmer hW hmade) hO
  have hfT : U.vm.findClass "PolicyNotation" = some t.cls := by rw [hal.findClass]; exact findClass_of_methodNamed hy
  have htcl : t.cls = tc := Option.some.inj (hfT.symm.trans htc)
  have ht9 : t9 = t := by
    have h1 : (s.setVm U.vm).methodFound? "PolicyNotation" "lambda$scopeOf$0" "(ILPolicyNotation$Rule;)Z" = some t := by rw [State.methodFound?_setVm hal]; exact State.methodFound?_of_named hy (by decide)
    simp only [State.methodFound?, State.vm_setVm, htc, htk, Option.bind_eq_bind, Option.bind_some] at h1
    rw [hlook] at h1
    exact Option.some.inj h1
  subst ht9
  obtain ⟨methY, cT, hmY0, -, -, -, -, -, -, hsigY⟩ := Cond.code_spec hy hcode
  have hstY : methY.isStatic = true := Cond.static_spec hy hmY0 hst
  have hpar : methY.sig.parameters.length = 2 := by
    have hl9 : (parseMethodDescriptor "(ILPolicyNotation$Rule;)Z").map (fun d => d.parameters.length) = some 2 := by decide +kernel
    rw [show parseMethodDescriptor "(ILPolicyNotation$Rule;)Z" = some methY.sig from hsigY] at hl9
    exact Option.some.inj hl9
  have hmY : U.vm.method? t9 = some methY := by rw [hal.method?]; exact hmY0
  obtain ⟨kt0, hkt0, hktn⟩ := className_of_methodNamed hy
  obtain ⟨kt, hkt9, hket⟩ := hal.2.2 _ _ hkt0
  have hkt : U.vm.classes[tc]? = some kt := by rw [← htcl]; exact hkt9
  have hktk : tk = kt := Option.some.inj (htk.symm.trans hkt)
  have hnm : kt.name = "PolicyNotation" := by rw [hket]; exact hktn
  have hsp : ∀ z : Method, signaturePolymorphic kt z = false := fun z => by simp [signaturePolymorphic, hnm]
  have hsp0 : ∀ z : Method, signaturePolymorphic tk z = false := by rw [hktk]; exact hsp
  have hinY : kt.init = .initialized := by rw [hket]; change kt0.init = .initialized; exact Cond.initialized_spec (findClass_of_methodNamed hy) hkt0 hini
  obtain ⟨bm, hmem⟩ := memberRef_ask' (e := e) (vm := U.vm) (d := cell.cls) (index := 23) hk hfile (Or.inl (by rw [hpool]; exact lm72.1)) (by rw [hpool]; exact lm72.2.2)
  have hs : U.topJava?.isSome := Y₀.here.top
  jvm_step Y₀.here [hexec, hbytes, ld72_0, Value.isRef]
  jvm_step Y₀.here [hexec, hbytes, ld72_1, getfield.wp_ready (e := e) (s := U) (c := cell.cls) (field := f0) (a := a) (rest := []) (cell := cell) (v := (.int cv0)) (f := { method := ⟨cell.cls, 1⟩, pc := 1, locals := #[.val (.ref a), .val (.ref br)], stack := [.ref a], locked := none }) hs hR0 hS0 rfl (by rw [hH]; exact hcell) (by rw [hvm]; intro z; cases z) (by rw [hO0]; exact h0)]
  jvm_step Y₀.here [hexec, hbytes, ld72_4, Value.isRef]
  jvm_step Y₀.here [hexec, hbytes, ld72_5, invokestatic.wp_ready (e := e) (s := U) (m := t9) (k := kt) (meth := methY) (args := [(.int cv0), (.ref br)]) (rest := []) (f := { method := ⟨cell.cls, 1⟩, pc := 5, locals := #[.val (.ref a), .val (.ref br)], stack := [.ref br, (.int cv0)], locked := none }) hs ⟨19, _, _, bm, tc, tk, hmem, hcr, htk, by simp [hsp0]⟩ hmr (by rw [htcl]; exact hkt) hmY (hsp _) hstY hinY hpar.symm rfl]
  intro acts'
  exact hrest acts'
theorem lP73 {p : Program} {l : Launch} {e : Env} {s : State} {H : Heap} {args : Array Value} {a br : Addr} {cell : Cell} {d : ClassId} {dk : Class} {t : MethodId} {cv0 : Addr} (hexec : p.tables.exec = Jvm.exec) (hd : s.vm.classes[d]? = some dk) (hdn : dk.name = "PolicyNotation$Policy") (hmade : Lambda.isMade { classPath := fun _ => none } s.vm d sg73 cell.cls = true) (hOb : (Cond.instantiable "java/lang/Object" 0).before args s = true)
    (hcell : H[a]? = some cell) (hvm : cell.vm = .none) (h0 : cell.slots[0]? = some (.ref cv0)) (hy : s.methodNamed? ⟨"PolicyNotation$Policy", "lambda$count$0", "(LPolicyNotation$Asked;LPolicyNotation$Rule;)I"⟩ = some t) {bytes : ByteArray} {maxL : Nat} {ret : Option FieldType} (hcode : (Cond.code ⟨"PolicyNotation$Policy", "lambda$count$0", "(LPolicyNotation$Asked;LPolicyNotation$Rule;)I"⟩ bytes maxL ret).before args s = true) (hst : (Cond.static ⟨"PolicyNotation$Policy", "lambda$count$0", "(LPolicyNotation$Asked;LPolicyNotation$Rule;)I"⟩).before args s = true) (hini : (Cond.initialized "PolicyNotation$Policy").before args s = true) : vz_P p e l s H cell.cls a br lC73 5 #[(.ref cv0), (.ref br)] t := by
  intro R' s' below' U methk ck Y₀ hH hW hbytes target hrest
  have hal := hW.alike
  obtain ⟨dk₁, hdk₁, hed⟩ := hal.2.2 _ _ hd
  have hO : ∀ o ok, U.vm.findClass "java/lang/Object" = some o → U.vm.classes[o]? = some ok → ok.instanceTypes.size = 0 := fun o ok h1 h2 => by
    obtain ⟨c1, k1, q1, q2, -, -, -, q6⟩ := Cond.instantiable_spec hOb
    rw [hal.findClass] at h1
    cases q1.symm.trans h1
    obtain ⟨k2, q3, q4⟩ := hal.2.2 _ _ q2
    cases q3.symm.trans h2
    rw [q4]; exact q6
  obtain ⟨k, tk, file, methk9, ck9, tc, t9, f0, hk, hkn, hfile, hpool, -, -, -, -, -, -, -, htc, htk, hitf, hlook, hmr, hcr, -, hR0, hS0, hO0⟩ := lF73 hdk₁ (by rw [hed]; exact hdn) (Lambda.isMade_warmer hW hmade) hO
  have hfT : U.vm.findClass "PolicyNotation$Policy" = some t.cls := by rw [hal.findClass]; exact findClass_of_methodNamed hy
  have htcl : t.cls = tc := Option.some.inj (hfT.symm.trans htc)
  have ht9 : t9 = t := by
    have h1 : (s.setVm U.vm).methodFound? "PolicyNotation$Policy" "lambda$count$0" "(LPolicyNotation$Asked;LPolicyNotation$Rule;)I" = some t := by rw [State.methodFound?_setVm hal]; exact State.methodFound?_of_named hy (by decide)
    simp only [State.methodFound?, State.vm_setVm, htc, htk, Option.bind_eq_bind, Option.bind_some] at h1
    rw [hlook] at h1
    exact Option.some.inj h1
  subst ht9
  obtain ⟨methY, cT, hmY0, -, -, -, -, -, -, hsigY⟩ := Cond.code_spec hy hcode
  have hstY : methY.isStatic = true := Cond.static_spec hy hmY0 hst
  have hpar : methY.sig.parameters.length = 2 := by
    have hl9 : (parseMethodDescriptor "(LPolicyNotation$Asked;LPolicyNotation$Rule;)I").map (fun d => d.parameters.length) = some 2 := by decide +kernel
    rw [show parseMethodDescriptor "(LPolicyNotation$Asked;LPolicyNotation$Rule;)I" = some methY.sig from hsigY] at hl9
    exact Option.some.inj hl9
  have hmY : U.vm.method? t9 = some methY := by rw [hal.method?]; exact hmY0
  obtain ⟨kt0, hkt0, hktn⟩ := className_of_methodNamed hy
  obtain ⟨kt, hkt9, hket⟩ := hal.2.2 _ _ hkt0
  have hkt : U.vm.classes[tc]? = some kt := by rw [← htcl]; exact hkt9
  have hktk : tk = kt := Option.some.inj (htk.symm.trans hkt)
  have hnm : kt.name = "PolicyNotation$Policy" := by rw [hket]; exact hktn
  have hsp : ∀ z : Method, signaturePolymorphic kt z = false := fun z => by simp [signaturePolymorphic, hnm]
  have hsp0 : ∀ z : Method, signaturePolymorphic tk z = false := by rw [hktk]; exact hsp
  have hinY : kt.init = .initialized := by rw [hket]; change kt0.init = .initialized; exact Cond.initialized_spec (findClass_of_methodNamed hy) hkt0 hini
  obtain ⟨bm, hmem⟩ := memberRef_ask' (e := e) (vm := U.vm) (d := cell.cls) (index := 23) hk hfile (Or.inl (by rw [hpool]; exact lm73.1)) (by rw [hpool]; exact lm73.2.2)
  have hs : U.topJava?.isSome := Y₀.here.top
  jvm_step Y₀.here [hexec, hbytes, ld73_0, Value.isRef]
  jvm_step Y₀.here [hexec, hbytes, ld73_1, getfield.wp_ready (e := e) (s := U) (c := cell.cls) (field := f0) (a := a) (rest := []) (cell := cell) (v := (.ref cv0)) (f := { method := ⟨cell.cls, 1⟩, pc := 1, locals := #[.val (.ref a), .val (.ref br)], stack := [.ref a], locked := none }) hs hR0 hS0 rfl (by rw [hH]; exact hcell) (by rw [hvm]; intro z; cases z) (by rw [hO0]; exact h0)]
  jvm_step Y₀.here [hexec, hbytes, ld73_4, Value.isRef]
  jvm_step Y₀.here [hexec, hbytes, ld73_5, invokestatic.wp_ready (e := e) (s := U) (m := t9) (k := kt) (meth := methY) (args := [(.ref cv0), (.ref br)]) (rest := []) (f := { method := ⟨cell.cls, 1⟩, pc := 5, locals := #[.val (.ref a), .val (.ref br)], stack := [.ref br, (.ref cv0)], locked := none }) hs ⟨19, _, _, bm, tc, tk, hmem, hcr, htk, by simp [hsp0]⟩ hmr (by rw [htcl]; exact hkt) hmY (hsp _) hstY hinY hpar.symm rfl]
  intro acts'
  exact hrest acts'
theorem lP74 {p : Program} {l : Launch} {e : Env} {s : State} {H : Heap} {args : Array Value} {a br : Addr} {cell : Cell} {d : ClassId} {dk : Class} {t : MethodId} {cv0 : Int32} (hexec : p.tables.exec = Jvm.exec) (hd : s.vm.classes[d]? = some dk) (hdn : dk.name = "PolicyNotation") (hmade : Lambda.isMade { classPath := fun _ => none } s.vm d sg74 cell.cls = true) (hOb : (Cond.instantiable "java/lang/Object" 0).before args s = true)
    (hcell : H[a]? = some cell) (hvm : cell.vm = .none) (h0 : cell.slots[0]? = some (.int cv0)) (hy : s.methodNamed? ⟨"PolicyNotation", "lambda$ruleOf$1", "(ILPolicyNotation$Rule;)Z"⟩ = some t) {bytes : ByteArray} {maxL : Nat} {ret : Option FieldType} (hcode : (Cond.code ⟨"PolicyNotation", "lambda$ruleOf$1", "(ILPolicyNotation$Rule;)Z"⟩ bytes maxL ret).before args s = true) (hst : (Cond.static ⟨"PolicyNotation", "lambda$ruleOf$1", "(ILPolicyNotation$Rule;)Z"⟩).before args s = true) (hini : (Cond.initialized "PolicyNotation").before args s = true) : vz_P p e l s H cell.cls a br lC74 5 #[(.int cv0), (.ref br)] t := by
  intro R' s' below' U methk ck Y₀ hH hW hbytes target hrest
  have hal := hW.alike
  obtain ⟨dk₁, hdk₁, hed⟩ := hal.2.2 _ _ hd
  have hO : ∀ o ok, U.vm.findClass "java/lang/Object" = some o → U.vm.classes[o]? = some ok → ok.instanceTypes.size = 0 := fun o ok h1 h2 => by
    obtain ⟨c1, k1, q1, q2, -, -, -, q6⟩ := Cond.instantiable_spec hOb
    rw [hal.findClass] at h1
    cases q1.symm.trans h1
    obtain ⟨k2, q3, q4⟩ := hal.2.2 _ _ q2
    cases q3.symm.trans h2
    rw [q4]; exact q6
  obtain ⟨k, tk, file, methk9, ck9, tc, t9, f0, hk, hkn, hfile, hpool, -, -, -, -, -, -, -, htc, htk, hitf, hlook, hmr, hcr, -, hR0, hS0, hO0⟩ := lF74 hdk₁ (by rw [hed]; exact hdn) (Lambda.isMade_warmer hW hmade) hO
  have hfT : U.vm.findClass "PolicyNotation" = some t.cls := by rw [hal.findClass]; exact findClass_of_methodNamed hy
  have htcl : t.cls = tc := Option.some.inj (hfT.symm.trans htc)
  have ht9 : t9 = t := by
    have h1 : (s.setVm U.vm).methodFound? "PolicyNotation" "lambda$ruleOf$1" "(ILPolicyNotation$Rule;)Z" = some t := by rw [State.methodFound?_setVm hal]; exact State.methodFound?_of_named hy (by decide)
    simp only [State.methodFound?, State.vm_setVm, htc, htk, Option.bind_eq_bind, Option.bind_some] at h1
    rw [hlook] at h1
    exact Option.some.inj h1
  subst ht9
  obtain ⟨methY, cT, hmY0, -, -, -, -, -, -, hsigY⟩ := Cond.code_spec hy hcode
  have hstY : methY.isStatic = true := Cond.static_spec hy hmY0 hst
  have hpar : methY.sig.parameters.length = 2 := by
    have hl9 : (parseMethodDescriptor "(ILPolicyNotation$Rule;)Z").map (fun d => d.parameters.length) = some 2 := by decide +kernel
    rw [show parseMethodDescriptor "(ILPolicyNotation$Rule;)Z" = some methY.sig from hsigY] at hl9
    exact Option.some.inj hl9
  have hmY : U.vm.method? t9 = some methY := by rw [hal.method?]; exact hmY0
  obtain ⟨kt0, hkt0, hktn⟩ := className_of_methodNamed hy
  obtain ⟨kt, hkt9, hket⟩ := hal.2.2 _ _ hkt0
  have hkt : U.vm.classes[tc]? = some kt := by rw [← htcl]; exact hkt9
  have hktk : tk = kt := Option.some.inj (htk.symm.trans hkt)
  have hnm : kt.name = "PolicyNotation" := by rw [hket]; exact hktn
  have hsp : ∀ z : Method, signaturePolymorphic kt z = false := fun z => by simp [signaturePolymorphic, hnm]
  have hsp0 : ∀ z : Method, signaturePolymorphic tk z = false := by rw [hktk]; exact hsp
  have hinY : kt.init = .initialized := by rw [hket]; change kt0.init = .initialized; exact Cond.initialized_spec (findClass_of_methodNamed hy) hkt0 hini
  obtain ⟨bm, hmem⟩ := memberRef_ask' (e := e) (vm := U.vm) (d := cell.cls) (index := 23) hk hfile (Or.inl (by rw [hpool]; exact lm74.1)) (by rw [hpool]; exact lm74.2.2)
  have hs : U.topJava?.isSome := Y₀.here.top
  jvm_step Y₀.here [hexec, hbytes, ld74_0, Value.isRef]
  jvm_step Y₀.here [hexec, hbytes, ld74_1, getfield.wp_ready (e := e) (s := U) (c := cell.cls) (field := f0) (a := a) (rest := []) (cell := cell) (v := (.int cv0)) (f := { method := ⟨cell.cls, 1⟩, pc := 1, locals := #[.val (.ref a), .val (.ref br)], stack := [.ref a], locked := none }) hs hR0 hS0 rfl (by rw [hH]; exact hcell) (by rw [hvm]; intro z; cases z) (by rw [hO0]; exact h0)]
  jvm_step Y₀.here [hexec, hbytes, ld74_4, Value.isRef]
  jvm_step Y₀.here [hexec, hbytes, ld74_5, invokestatic.wp_ready (e := e) (s := U) (m := t9) (k := kt) (meth := methY) (args := [(.int cv0), (.ref br)]) (rest := []) (f := { method := ⟨cell.cls, 1⟩, pc := 5, locals := #[.val (.ref a), .val (.ref br)], stack := [.ref br, (.int cv0)], locked := none }) hs ⟨19, _, _, bm, tc, tk, hmem, hcr, htk, by simp [hsp0]⟩ hmr (by rw [htcl]; exact hkt) hmY (hsp _) hstY hinY hpar.symm rfl]
  intro acts'
  exact hrest acts'
theorem lP75 {p : Program} {l : Launch} {e : Env} {s : State} {H : Heap} {args : Array Value} {a br : Addr} {cell : Cell} {d : ClassId} {dk : Class} {t : MethodId} {cv0 : Addr} {cv1 : Int32} (hexec : p.tables.exec = Jvm.exec) (hd : s.vm.classes[d]? = some dk) (hdn : dk.name = "PolicyNotation") (hmade : Lambda.isMade { classPath := fun _ => none } s.vm d sg75 cell.cls = true) (hOb : (Cond.instantiable "java/lang/Object" 0).before args s = true)
    (hcell : H[a]? = some cell) (hvm : cell.vm = .none) (h0 : cell.slots[0]? = some (.ref cv0)) (h1 : cell.slots[1]? = some (.int cv1)) (hy : s.methodNamed? ⟨"PolicyNotation", "lambda$without$2", "(ILPolicyNotation$Work;)I"⟩ = some t) {bytes : ByteArray} {maxL : Nat} {ret : Option FieldType} (hcode : (Cond.code ⟨"PolicyNotation", "lambda$without$2", "(ILPolicyNotation$Work;)I"⟩ bytes maxL ret).before args s = true) (hsel : (Cond.selects "PolicyNotation" ⟨"PolicyNotation", "lambda$without$2", "(ILPolicyNotation$Work;)I"⟩ ⟨"PolicyNotation", "lambda$without$2", "(ILPolicyNotation$Work;)I"⟩).before args s = true) {cellB : Cell} (hB : H[cv0]? = some cellB) (hBo : cellB.vm.isStatics = false) (hBc : s.vm.findClass "PolicyNotation" = some cellB.cls) (hinst : (Cond.instanceMethod ⟨"PolicyNotation", "lambda$without$2", "(ILPolicyNotation$Work;)I"⟩).before args s = true) : vz_P p e l s H cell.cls a br lC75 9 #[(.ref cv0), (.int cv1), (.ref br)] t := by
  intro R' s' below' U methk ck Y₀ hH hW hbytes target hrest
  have hal := hW.alike
  obtain ⟨dk₁, hdk₁, hed⟩ := hal.2.2 _ _ hd
  have hO : ∀ o ok, U.vm.findClass "java/lang/Object" = some o → U.vm.classes[o]? = some ok → ok.instanceTypes.size = 0 := fun o ok h1 h2 => by
    obtain ⟨c1, k1, q1, q2, -, -, -, q6⟩ := Cond.instantiable_spec hOb
    rw [hal.findClass] at h1
    cases q1.symm.trans h1
    obtain ⟨k2, q3, q4⟩ := hal.2.2 _ _ q2
    cases q3.symm.trans h2
    rw [q4]; exact q6
  obtain ⟨k, tk, file, methk9, ck9, tc, t9, f0, f1, hk, hkn, hfile, hpool, -, -, -, -, -, -, -, htc, htk, hitf, hlook, hmr, hcr, -, hR0, hS0, hO0, hR1, hS1, hO1⟩ := lF75 hdk₁ (by rw [hed]; exact hdn) (Lambda.isMade_warmer hW hmade) hO
  have hfT : U.vm.findClass "PolicyNotation" = some t.cls := by rw [hal.findClass]; exact findClass_of_methodNamed hy
  have htcl : t.cls = tc := Option.some.inj (hfT.symm.trans htc)
  have ht9 : t9 = t := by
    have h1 : (s.setVm U.vm).methodFound? "PolicyNotation" "lambda$without$2" "(ILPolicyNotation$Work;)I" = some t := by rw [State.methodFound?_setVm hal]; exact State.methodFound?_of_named hy (by decide)
    simp only [State.methodFound?, State.vm_setVm, htc, htk, Option.bind_eq_bind, Option.bind_some] at h1
    rw [hlook] at h1
    exact Option.some.inj h1
  subst ht9
  obtain ⟨mk0, methY, hnamed, hmY0, hnst, habs⟩ := Cond.instanceMethod_spec hinst
  cases hy.symm.trans hnamed
  obtain ⟨c2, r2, m2, q1, q2, q3, q4, -⟩ := Cond.selects_spec hsel
  cases hBc.symm.trans q1
  cases hy.symm.trans q3
  have hr2 : r2 = t9 := by
    have h1 : s.methodFound? "PolicyNotation" "lambda$without$2" "(ILPolicyNotation$Work;)I" = some t9 := State.methodFound?_of_named hy (by decide)
    exact Option.some.inj (q2.symm.trans h1)
  subst hr2
  have hsel9 : selectMethod e.platform U.vm cellB.cls r2 = .method r2 := by rw [Launch.admits_selectMethod Y₀.admits, hal.selectMethod]; exact q4
  obtain ⟨methZ, cT, hmZ, -, -, -, -, -, -, hsigY⟩ := Cond.code_spec hy hcode
  cases hmY0.symm.trans hmZ
  have hpar : methY.sig.parameters.length = 2 := by
    have hl9 : (parseMethodDescriptor "(ILPolicyNotation$Work;)I").map (fun d => d.parameters.length) = some 2 := by decide +kernel
    rw [show parseMethodDescriptor "(ILPolicyNotation$Work;)I" = some methY.sig from hsigY] at hl9
    exact Option.some.inj hl9
  have hmY : U.vm.method? r2 = some methY := by rw [hal.method?]; exact hmY0
  obtain ⟨kt0, hkt0, hktn⟩ := className_of_methodNamed hy
  obtain ⟨kt, hkt9, hket⟩ := hal.2.2 _ _ hkt0
  have hkt : U.vm.classes[tc]? = some kt := by rw [← htcl]; exact hkt9
  have hktk : tk = kt := Option.some.inj (htk.symm.trans hkt)
  have hnm : kt.name = "PolicyNotation" := by rw [hket]; exact hktn
  have hsp : ∀ z : Method, signaturePolymorphic kt z = false := fun z => by simp [signaturePolymorphic, hnm]
  have hsp0 : ∀ z : Method, signaturePolymorphic tk z = false := by rw [hktk]; exact hsp
  have hkti : kt.isInterface = false := by rw [← hktk]; exact hitf
  have hs : U.topJava?.isSome := Y₀.here.top
  jvm_step Y₀.here [hexec, hbytes, ld75_0, Value.isRef]
  jvm_step Y₀.here [hexec, hbytes, ld75_1, getfield.wp_ready (e := e) (s := U) (c := cell.cls) (field := f0) (a := a) (rest := []) (cell := cell) (v := (.ref cv0)) (f := { method := ⟨cell.cls, 1⟩, pc := 1, locals := #[.val (.ref a), .val (.ref br)], stack := [.ref a], locked := none }) hs hR0 hS0 rfl (by rw [hH]; exact hcell) (by rw [hvm]; intro z; cases z) (by rw [hO0]; exact h0)]
  jvm_step Y₀.here [hexec, hbytes, ld75_4, Value.isRef]
  jvm_step Y₀.here [hexec, hbytes, ld75_5, getfield.wp_ready (e := e) (s := U) (c := cell.cls) (field := f1) (a := a) (rest := [(.ref cv0)]) (cell := cell) (v := (.int cv1)) (f := { method := ⟨cell.cls, 1⟩, pc := 5, locals := #[.val (.ref a), .val (.ref br)], stack := [.ref a, (.ref cv0)], locked := none }) hs hR1 hS1 rfl (by rw [hH]; exact hcell) (by rw [hvm]; intro z; cases z) (by rw [hO1]; exact h1)]
  jvm_step Y₀.here [hexec, hbytes, ld75_8, Value.isRef]
  jvm_step Y₀.here [hexec, hbytes, ld75_9, invokevirtual.wp_ready (e := e) (s := U) (r := r2) (m := r2) (k := kt) (mk := kt) (rmeth := methY) (meth := methY) (a := cv0) (args := [(.int cv1), (.ref br)]) (rest := []) (cell := cellB) (f := { method := ⟨cell.cls, 1⟩, pc := 9, locals := #[.val (.ref a), .val (.ref br)], stack := [.ref br, (.int cv1), (.ref cv0)], locked := none }) hs ⟨k, file, 23, _, tc, tk, hk, hfile, by rw [hpool]; exact lm75.1, hcr, htk, hitf⟩ hmr (by rw [htcl]; exact hkt) hmY (hsp _) hnst hpar.symm rfl (by rw [hH]; exact hB) (fun z h => by rw [h] at hBo; cases hBo) hsel9 hmY habs (by rw [htcl]; exact hkt) hkti]
  intro acts'
  exact hrest acts'
theorem lP76 {p : Program} {l : Launch} {e : Env} {s : State} {H : Heap} {args : Array Value} {a br : Addr} {cell : Cell} {d : ClassId} {dk : Class} {t : MethodId}  (hexec : p.tables.exec = Jvm.exec) (hd : s.vm.classes[d]? = some dk) (hdn : dk.name = "PolicyNotation") (hmade : Lambda.isMade { classPath := fun _ => none } s.vm d sg76 cell.cls = true) (hOb : (Cond.instantiable "java/lang/Object" 0).before args s = true)
    (hcell : H[a]? = some cell) (hvm : cell.vm = .none)  (hy : s.methodNamed? ⟨"PolicyNotation", "lambda$account$3", "(LPolicyNotation$Rule;)Z"⟩ = some t) {bytes : ByteArray} {maxL : Nat} {ret : Option FieldType} (hcode : (Cond.code ⟨"PolicyNotation", "lambda$account$3", "(LPolicyNotation$Rule;)Z"⟩ bytes maxL ret).before args s = true) (hst : (Cond.static ⟨"PolicyNotation", "lambda$account$3", "(LPolicyNotation$Rule;)Z"⟩).before args s = true) (hini : (Cond.initialized "PolicyNotation").before args s = true) : vz_P p e l s H cell.cls a br lC76 1 #[(.ref br)] t := by
  intro R' s' below' U methk ck Y₀ hH hW hbytes target hrest
  have hal := hW.alike
  obtain ⟨dk₁, hdk₁, hed⟩ := hal.2.2 _ _ hd
  have hO : ∀ o ok, U.vm.findClass "java/lang/Object" = some o → U.vm.classes[o]? = some ok → ok.instanceTypes.size = 0 := fun o ok h1 h2 => by
    obtain ⟨c1, k1, q1, q2, -, -, -, q6⟩ := Cond.instantiable_spec hOb
    rw [hal.findClass] at h1
    cases q1.symm.trans h1
    obtain ⟨k2, q3, q4⟩ := hal.2.2 _ _ q2
    cases q3.symm.trans h2
    rw [q4]; exact q6
  obtain ⟨k, tk, file, methk9, ck9, tc, t9, hk, hkn, hfile, hpool, -, -, -, -, -, -, -, htc, htk, hitf, hlook, hmr, hcr, -⟩ := lF76 hdk₁ (by rw [hed]; exact hdn) (Lambda.isMade_warmer hW hmade) hO
  have hfT : U.vm.findClass "PolicyNotation" = some t.cls := by rw [hal.findClass]; exact findClass_of_methodNamed hy
  have htcl : t.cls = tc := Option.some.inj (hfT.symm.trans htc)
  have ht9 : t9 = t := by
    have h1 : (s.setVm U.vm).methodFound? "PolicyNotation" "lambda$account$3" "(LPolicyNotation$Rule;)Z" = some t := by rw [State.methodFound?_setVm hal]; exact State.methodFound?_of_named hy (by decide)
    simp only [State.methodFound?, State.vm_setVm, htc, htk, Option.bind_eq_bind, Option.bind_some] at h1
    rw [hlook] at h1
    exact Option.some.inj h1
  subst ht9
  obtain ⟨methY, cT, hmY0, -, -, -, -, -, -, hsigY⟩ := Cond.code_spec hy hcode
  have hstY : methY.isStatic = true := Cond.static_spec hy hmY0 hst
  have hpar : methY.sig.parameters.length = 1 := by
    have hl9 : (parseMethodDescriptor "(LPolicyNotation$Rule;)Z").map (fun d => d.parameters.length) = some 1 := by decide +kernel
    rw [show parseMethodDescriptor "(LPolicyNotation$Rule;)Z" = some methY.sig from hsigY] at hl9
    exact Option.some.inj hl9
  have hmY : U.vm.method? t9 = some methY := by rw [hal.method?]; exact hmY0
  obtain ⟨kt0, hkt0, hktn⟩ := className_of_methodNamed hy
  obtain ⟨kt, hkt9, hket⟩ := hal.2.2 _ _ hkt0
  have hkt : U.vm.classes[tc]? = some kt := by rw [← htcl]; exact hkt9
  have hktk : tk = kt := Option.some.inj (htk.symm.trans hkt)
  have hnm : kt.name = "PolicyNotation" := by rw [hket]; exact hktn
  have hsp : ∀ z : Method, signaturePolymorphic kt z = false := fun z => by simp [signaturePolymorphic, hnm]
  have hsp0 : ∀ z : Method, signaturePolymorphic tk z = false := by rw [hktk]; exact hsp
  have hinY : kt.init = .initialized := by rw [hket]; change kt0.init = .initialized; exact Cond.initialized_spec (findClass_of_methodNamed hy) hkt0 hini
  obtain ⟨bm, hmem⟩ := memberRef_ask' (e := e) (vm := U.vm) (d := cell.cls) (index := 17) hk hfile (Or.inl (by rw [hpool]; exact lm76.1)) (by rw [hpool]; exact lm76.2.2)
  have hs : U.topJava?.isSome := Y₀.here.top
  jvm_step Y₀.here [hexec, hbytes, ld76_0, Value.isRef]
  jvm_step Y₀.here [hexec, hbytes, ld76_1, invokestatic.wp_ready (e := e) (s := U) (m := t9) (k := kt) (meth := methY) (args := [(.ref br)]) (rest := []) (f := { method := ⟨cell.cls, 1⟩, pc := 1, locals := #[.val (.ref a), .val (.ref br)], stack := [.ref br], locked := none }) hs ⟨14, _, _, bm, tc, tk, hmem, hcr, htk, by simp [hsp0]⟩ hmr (by rw [htcl]; exact hkt) hmY (hsp _) hstY hinY hpar.symm rfl]
  intro acts'
  exact hrest acts'
theorem lP77 {p : Program} {l : Launch} {e : Env} {s : State} {H : Heap} {args : Array Value} {a br : Addr} {cell : Cell} {d : ClassId} {dk : Class} {t : MethodId}  (hexec : p.tables.exec = Jvm.exec) (hd : s.vm.classes[d]? = some dk) (hdn : dk.name = "PolicyNotation") (hmade : Lambda.isMade { classPath := fun _ => none } s.vm d sg77 cell.cls = true) (hOb : (Cond.instantiable "java/lang/Object" 0).before args s = true)
    (hcell : H[a]? = some cell) (hvm : cell.vm = .none)  (hy : s.methodNamed? ⟨"PolicyNotation", "lambda$account$4", "(LPolicyNotation$Rule;)I"⟩ = some t) {bytes : ByteArray} {maxL : Nat} {ret : Option FieldType} (hcode : (Cond.code ⟨"PolicyNotation", "lambda$account$4", "(LPolicyNotation$Rule;)I"⟩ bytes maxL ret).before args s = true) (hst : (Cond.static ⟨"PolicyNotation", "lambda$account$4", "(LPolicyNotation$Rule;)I"⟩).before args s = true) (hini : (Cond.initialized "PolicyNotation").before args s = true) : vz_P p e l s H cell.cls a br lC77 1 #[(.ref br)] t := by
  intro R' s' below' U methk ck Y₀ hH hW hbytes target hrest
  have hal := hW.alike
  obtain ⟨dk₁, hdk₁, hed⟩ := hal.2.2 _ _ hd
  have hO : ∀ o ok, U.vm.findClass "java/lang/Object" = some o → U.vm.classes[o]? = some ok → ok.instanceTypes.size = 0 := fun o ok h1 h2 => by
    obtain ⟨c1, k1, q1, q2, -, -, -, q6⟩ := Cond.instantiable_spec hOb
    rw [hal.findClass] at h1
    cases q1.symm.trans h1
    obtain ⟨k2, q3, q4⟩ := hal.2.2 _ _ q2
    cases q3.symm.trans h2
    rw [q4]; exact q6
  obtain ⟨k, tk, file, methk9, ck9, tc, t9, hk, hkn, hfile, hpool, -, -, -, -, -, -, -, htc, htk, hitf, hlook, hmr, hcr, -⟩ := lF77 hdk₁ (by rw [hed]; exact hdn) (Lambda.isMade_warmer hW hmade) hO
  have hfT : U.vm.findClass "PolicyNotation" = some t.cls := by rw [hal.findClass]; exact findClass_of_methodNamed hy
  have htcl : t.cls = tc := Option.some.inj (hfT.symm.trans htc)
  have ht9 : t9 = t := by
    have h1 : (s.setVm U.vm).methodFound? "PolicyNotation" "lambda$account$4" "(LPolicyNotation$Rule;)I" = some t := by rw [State.methodFound?_setVm hal]; exact State.methodFound?_of_named hy (by decide)
    simp only [State.methodFound?, State.vm_setVm, htc, htk, Option.bind_eq_bind, Option.bind_some] at h1
    rw [hlook] at h1
    exact Option.some.inj h1
  subst ht9
  obtain ⟨methY, cT, hmY0, -, -, -, -, -, -, hsigY⟩ := Cond.code_spec hy hcode
  have hstY : methY.isStatic = true := Cond.static_spec hy hmY0 hst
  have hpar : methY.sig.parameters.length = 1 := by
    have hl9 : (parseMethodDescriptor "(LPolicyNotation$Rule;)I").map (fun d => d.parameters.length) = some 1 := by decide +kernel
    rw [show parseMethodDescriptor "(LPolicyNotation$Rule;)I" = some methY.sig from hsigY] at hl9
    exact Option.some.inj hl9
  have hmY : U.vm.method? t9 = some methY := by rw [hal.method?]; exact hmY0
  obtain ⟨kt0, hkt0, hktn⟩ := className_of_methodNamed hy
  obtain ⟨kt, hkt9, hket⟩ := hal.2.2 _ _ hkt0
  have hkt : U.vm.classes[tc]? = some kt := by rw [← htcl]; exact hkt9
  have hktk : tk = kt := Option.some.inj (htk.symm.trans hkt)
  have hnm : kt.name = "PolicyNotation" := by rw [hket]; exact hktn
  have hsp : ∀ z : Method, signaturePolymorphic kt z = false := fun z => by simp [signaturePolymorphic, hnm]
  have hsp0 : ∀ z : Method, signaturePolymorphic tk z = false := by rw [hktk]; exact hsp
  have hinY : kt.init = .initialized := by rw [hket]; change kt0.init = .initialized; exact Cond.initialized_spec (findClass_of_methodNamed hy) hkt0 hini
  obtain ⟨bm, hmem⟩ := memberRef_ask' (e := e) (vm := U.vm) (d := cell.cls) (index := 17) hk hfile (Or.inl (by rw [hpool]; exact lm77.1)) (by rw [hpool]; exact lm77.2.2)
  have hs : U.topJava?.isSome := Y₀.here.top
  jvm_step Y₀.here [hexec, hbytes, ld77_0, Value.isRef]
  jvm_step Y₀.here [hexec, hbytes, ld77_1, invokestatic.wp_ready (e := e) (s := U) (m := t9) (k := kt) (meth := methY) (args := [(.ref br)]) (rest := []) (f := { method := ⟨cell.cls, 1⟩, pc := 1, locals := #[.val (.ref a), .val (.ref br)], stack := [.ref br], locked := none }) hs ⟨14, _, _, bm, tc, tk, hmem, hcr, htk, by simp [hsp0]⟩ hmr (by rw [htcl]; exact hkt) hmY (hsp _) hstY hinY hpar.symm rfl]
  intro acts'
  exact hrest acts'
theorem lP78 {p : Program} {l : Launch} {e : Env} {s : State} {H : Heap} {args : Array Value} {a br : Addr} {cell : Cell} {d : ClassId} {dk : Class} {t : MethodId} {cv0 : Addr} (hexec : p.tables.exec = Jvm.exec) (hd : s.vm.classes[d]? = some dk) (hdn : dk.name = "PolicyNotation") (hmade : Lambda.isMade { classPath := fun _ => none } s.vm d sg78 cell.cls = true) (hOb : (Cond.instantiable "java/lang/Object" 0).before args s = true)
    (hcell : H[a]? = some cell) (hvm : cell.vm = .none) (h0 : cell.slots[0]? = some (.ref cv0)) (hy : s.methodNamed? ⟨"PolicyNotation", "lambda$account$5", "(LPolicyNotation$Work;)I"⟩ = some t) {bytes : ByteArray} {maxL : Nat} {ret : Option FieldType} (hcode : (Cond.code ⟨"PolicyNotation", "lambda$account$5", "(LPolicyNotation$Work;)I"⟩ bytes maxL ret).before args s = true) (hsel : (Cond.selects "PolicyNotation" ⟨"PolicyNotation", "lambda$account$5", "(LPolicyNotation$Work;)I"⟩ ⟨"PolicyNotation", "lambda$account$5", "(LPolicyNotation$Work;)I"⟩).before args s = true) {cellB : Cell} (hB : H[cv0]? = some cellB) (hBo : cellB.vm.isStatics = false) (hBc : s.vm.findClass "PolicyNotation" = some cellB.cls) (hinst : (Cond.instanceMethod ⟨"PolicyNotation", "lambda$account$5", "(LPolicyNotation$Work;)I"⟩).before args s = true) : vz_P p e l s H cell.cls a br lC78 5 #[(.ref cv0), (.ref br)] t := by
  intro R' s' below' U methk ck Y₀ hH hW hbytes target hrest
  have hal := hW.alike
  obtain ⟨dk₁, hdk₁, hed⟩ := hal.2.2 _ _ hd
  have hO : ∀ o ok, U.vm.findClass "java/lang/Object" = some o → U.vm.classes[o]? = some ok → ok.instanceTypes.size = 0 := fun o ok h1 h2 => by
    obtain ⟨c1, k1, q1, q2, -, -, -, q6⟩ := Cond.instantiable_spec hOb
    rw [hal.findClass] at h1
    cases q1.symm.trans h1
    obtain ⟨k2, q3, q4⟩ := hal.2.2 _ _ q2
    cases q3.symm.trans h2
    rw [q4]; exact q6
  obtain ⟨k, tk, file, methk9, ck9, tc, t9, f0, hk, hkn, hfile, hpool, -, -, -, -, -, -, -, htc, htk, hitf, hlook, hmr, hcr, -, hR0, hS0, hO0⟩ := lF78 hdk₁ (by rw [hed]; exact hdn) (Lambda.isMade_warmer hW hmade) hO
  have hfT : U.vm.findClass "PolicyNotation" = some t.cls := by rw [hal.findClass]; exact findClass_of_methodNamed hy
  have htcl : t.cls = tc := Option.some.inj (hfT.symm.trans htc)
  have ht9 : t9 = t := by
    have h1 : (s.setVm U.vm).methodFound? "PolicyNotation" "lambda$account$5" "(LPolicyNotation$Work;)I" = some t := by rw [State.methodFound?_setVm hal]; exact State.methodFound?_of_named hy (by decide)
    simp only [State.methodFound?, State.vm_setVm, htc, htk, Option.bind_eq_bind, Option.bind_some] at h1
    rw [hlook] at h1
    exact Option.some.inj h1
  subst ht9
  obtain ⟨mk0, methY, hnamed, hmY0, hnst, habs⟩ := Cond.instanceMethod_spec hinst
  cases hy.symm.trans hnamed
  obtain ⟨c2, r2, m2, q1, q2, q3, q4, -⟩ := Cond.selects_spec hsel
  cases hBc.symm.trans q1
  cases hy.symm.trans q3
  have hr2 : r2 = t9 := by
    have h1 : s.methodFound? "PolicyNotation" "lambda$account$5" "(LPolicyNotation$Work;)I" = some t9 := State.methodFound?_of_named hy (by decide)
    exact Option.some.inj (q2.symm.trans h1)
  subst hr2
  have hsel9 : selectMethod e.platform U.vm cellB.cls r2 = .method r2 := by rw [Launch.admits_selectMethod Y₀.admits, hal.selectMethod]; exact q4
  obtain ⟨methZ, cT, hmZ, -, -, -, -, -, -, hsigY⟩ := Cond.code_spec hy hcode
  cases hmY0.symm.trans hmZ
  have hpar : methY.sig.parameters.length = 1 := by
    have hl9 : (parseMethodDescriptor "(LPolicyNotation$Work;)I").map (fun d => d.parameters.length) = some 1 := by decide +kernel
    rw [show parseMethodDescriptor "(LPolicyNotation$Work;)I" = some methY.sig from hsigY] at hl9
    exact Option.some.inj hl9
  have hmY : U.vm.method? r2 = some methY := by rw [hal.method?]; exact hmY0
  obtain ⟨kt0, hkt0, hktn⟩ := className_of_methodNamed hy
  obtain ⟨kt, hkt9, hket⟩ := hal.2.2 _ _ hkt0
  have hkt : U.vm.classes[tc]? = some kt := by rw [← htcl]; exact hkt9
  have hktk : tk = kt := Option.some.inj (htk.symm.trans hkt)
  have hnm : kt.name = "PolicyNotation" := by rw [hket]; exact hktn
  have hsp : ∀ z : Method, signaturePolymorphic kt z = false := fun z => by simp [signaturePolymorphic, hnm]
  have hsp0 : ∀ z : Method, signaturePolymorphic tk z = false := by rw [hktk]; exact hsp
  have hkti : kt.isInterface = false := by rw [← hktk]; exact hitf
  have hs : U.topJava?.isSome := Y₀.here.top
  jvm_step Y₀.here [hexec, hbytes, ld78_0, Value.isRef]
  jvm_step Y₀.here [hexec, hbytes, ld78_1, getfield.wp_ready (e := e) (s := U) (c := cell.cls) (field := f0) (a := a) (rest := []) (cell := cell) (v := (.ref cv0)) (f := { method := ⟨cell.cls, 1⟩, pc := 1, locals := #[.val (.ref a), .val (.ref br)], stack := [.ref a], locked := none }) hs hR0 hS0 rfl (by rw [hH]; exact hcell) (by rw [hvm]; intro z; cases z) (by rw [hO0]; exact h0)]
  jvm_step Y₀.here [hexec, hbytes, ld78_4, Value.isRef]
  jvm_step Y₀.here [hexec, hbytes, ld78_5, invokevirtual.wp_ready (e := e) (s := U) (r := r2) (m := r2) (k := kt) (mk := kt) (rmeth := methY) (meth := methY) (a := cv0) (args := [(.ref br)]) (rest := []) (cell := cellB) (f := { method := ⟨cell.cls, 1⟩, pc := 5, locals := #[.val (.ref a), .val (.ref br)], stack := [.ref br, (.ref cv0)], locked := none }) hs ⟨k, file, 19, _, tc, tk, hk, hfile, by rw [hpool]; exact lm78.1, hcr, htk, hitf⟩ hmr (by rw [htcl]; exact hkt) hmY (hsp _) hnst hpar.symm rfl (by rw [hH]; exact hB) (fun z h => by rw [h] at hBo; cases hBo) hsel9 hmY habs (by rw [htcl]; exact hkt) hkti]
  intro acts'
  exact hrest acts'
