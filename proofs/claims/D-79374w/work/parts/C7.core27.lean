/-! CORE 27: words and heads of the effects -/
set_option maxRecDepth 100000
section L27
variable {p : Program} {l : Launch} {e : Env} {R : Room} {s : State} {m : MethodId} {args : Array Value} {below : List Frame} {meth : Method} {c : Code} {H : Heap} {locs : List Loc} {cells slots : Nat}
theorem vz_leafA {own C owner : String} {index pc : Nat} {x y : MethodName} {bytes : ByteArray} {ix : Nat} {q : Addr} {tx : String} {b : Addr} {cellB : Cell} {Q : State → Prop} {ls : Array Slot} {rest : List Value} (hexec : p.tables.exec = Jvm.exec)
    (hown : s.vm.findClass own = some m.cls) (hlink : (Cond.methodLink own index x).before args s = true) (hsame : (Cond.sameMethod x.cls owner x.name x.desc).before args s = true)
    (hd0 : va_Decl s ⟨owner, x.name, x.desc⟩) (howner : owner ≠ "java/lang/invoke/MethodHandle" ∧ owner ≠ "java/lang/invoke/VarHandle") (hx0 : (parseMethodDescriptor x.desc).map (fun d => d.parameters.length) = some 0)
    (hsel : (Cond.selects C x y).before args s = true) (hinst : (Cond.instanceMethod y).before args s = true) (hcode : (Cond.code y bytes 1 (some (.object "java/lang/String"))).before args s = true) (hpl : plainName y.cls = true)
    (hZ : ∀ U : State, s.WarmedH U.vm → vk_R y.cls ix tx q U) (d0 : decode bytes 0 = .ok (.ldc ix, 2)) (d1 : decode bytes 2 = .ok (.areturn, 1))
    (hcell : H[b]? = some cellB) (hobj : cellB.vm.isStatics = false) (hcls : s.vm.findClass C = some cellB.cls) (hls : ls.size = c.maxLocals) (hr8 : (rest.map fun v => v.category).sum ≤ 8) (hfr : 1 ≤ R.frames) (hlo : 40 ≤ R.locals) (hcl : cells ≤ R.cells) (hsl : slots ≤ R.slots) (hdg : decode c.code pc = .ok (.invokevirtual index, 3))
    (k : W p l e R s m args below meth c H locs cells slots Q (F0 m (pc + 3) ls ((.ref q) :: rest))) : W p l e R s m args below meth c H locs cells slots Q (F0 m pc ls (.ref b :: rest)) := by
  intro T hT X
  obtain ⟨r0, r, hn, hrm, hstR, hsigR⟩ := hd0
  obtain ⟨cn, ck, r1, hcn, hck, hni, hf, hn1⟩ := Cond.sameMethod_found hsame
  cases hn.symm.trans hn1
  obtain ⟨mk, methM, hnamed, hmethM, -, habM⟩ := Cond.instanceMethod_spec hinst
  obtain ⟨c2, r2, m2, q1, q2, q3, q4, kP, hkP, hkPi⟩ := Cond.selects_spec hsel
  cases hcls.symm.trans q1
  cases hf.symm.trans q2
  cases hnamed.symm.trans q3
  obtain ⟨methM', cM, hmethM', hcM, hbytes, hml, hretM, hlkM, -, -⟩ := Cond.code_spec hnamed hcode
  cases hmethM.symm.trans hmethM'
  have hselP : selectMethod e.platform s.vm cellB.cls r0 = .method mk := by rw [Launch.admits_selectMethod X.admits]; exact q4
  have hl0 : ([] : List Value).length = r.sig.parameters.length := by
    rw [show parseMethodDescriptor x.desc = some r.sig from hsigR] at hx0
    exact (Option.some.inj hx0).symm
  obtain ⟨vm₁, X₁, hstep₁⟩ := X.invokevirtualUp hexec hown hlink hsame howner hn hrm hstR (a := b) (cell := cellB) (by rw [hT]; exact hcell)
    (fun z h => by rw [h] at hobj; cases hobj) hselP hmethM habM hkP hkPi (g := F0 m pc ls (.ref b :: rest)) rfl (argsL := []) (rest := rest) hl0 rfl hdg
  have hW₁ : s.WarmedH vm₁ := X₁.warmed
  have hmk : (T.setVm vm₁).vm.method? mk = some methM := by
    show vm₁.method? mk = some methM
    rw [hW₁.alike.method?]; exact hmethM
  obtain ⟨kY, hkY, hkYn⟩ := className_of_methodNamed hnamed
  obtain ⟨kY', hkY', heY⟩ := hW₁.alike.2.2 _ _ hkY
  have hpk : (T.setVm vm₁).plainMethod mk := State.plainMethod.of_name (fun k' hk' => by
    have h9 : vm₁.classes[mk.cls]? = some k' := hk'
    cases hkY'.symm.trans h9
    rw [heY]
    show plainName kY.name = true
    rw [hkYn]; exact hpl)
  obtain ⟨Y₀, hin⟩ := X₁.into (g := F0 m pc ls rest) rfl hls hdg #[.ref b] (R' := { frames := 0, locals := 16, cells := 0, slots := 0 }) hmk hcM hlkM hpk
    (by show 0 + 1 ≤ R.frames; omega) (by rw [hml]; show 2 * 0 + (rest.map fun v => v.category).sum + (1 + 11) + 16 ≤ R.locals; omega) hcl hsl
  have hin9 := hin
  have hloc : entryFrame mk #[.ref b] cM.maxLocals = { method := mk, pc := 0, locals := #[.val (.ref b)], stack := [], locked := none } := by rw [hml]; rfl
  generalize hU : ((T.setVm vm₁).setTop (F0 m pc ls rest)).pushFrame (.java (entryFrame mk #[.ref b] cM.maxLocals)) = U at Y₀ hin9
  have hvm : U.vm = vm₁ := by rw [← hU]; rfl
  have hheap : U.heap = H := by rw [← hU]; exact hT
  obtain ⟨fs, hleave, -, hended, hWe, hsameF⟩ := Y₀.leave (v := some (.ref q)) (fun h => by rw [hretM] at h; cases h) hlkM
  obtain ⟨T', X', hW', -, ht⟩ := X₁.outOf (g := F0 m pc ls rest) rfl hdg hended hWe hsameF
  have hheap' : T'.heap = H := by
    have h9 : (U.setFrames fs).heap = T'.heap := by rw [ht]; rfl
    rw [← h9]; exact hheap
  rw [List.append_nil, Nat.add_zero, Nat.add_zero] at X'
  obtain ⟨t2, a1, b1⟩ := k T' hheap' X'
  refine ⟨t2, hstep₁ _ (fun acts => ?_), b1⟩
  have hs1 : (doInvoke e ((T.setVm vm₁).setTop (F0 m pc ls rest)) acts mk #[.ref b]).1 = U.setTop (entryFrame mk #[.ref b] cM.maxLocals) := hin9 acts
  refine Steps.trans ?_ a1
  show Steps p.tables e below (doInvoke e ((T.setVm vm₁).setTop (F0 m pc ls rest)) acts mk #[.ref b]).1 _
  rw [hs1, hloc]
  rw [show T'.setTop (F0 m (pc + 3) ls ((.ref q) :: rest)) = U.setFrames fs from ht.symm]
  refine Steps.weaken (mid := [.java (F0 m pc ls rest)]) ?_
  have hs : U.topJava?.isSome := Y₀.here.top
  have hyc : _ := findClass_of_methodNamed hnamed
  have run : ∀ target, Steps p.tables e (.java (F0 m pc ls rest) :: below) (U.setTop { method := mk, pc := 2, locals := #[.val (.ref b)], stack := [(.ref q)], locked := none }) target → Steps p.tables e (.java (F0 m pc ls rest) :: below) (U.setTop { method := mk, pc := 0, locals := #[.val (.ref b)], stack := [], locked := none }) target := by
    intro target h
    exact Y₀.ldcString hexec (own := y.cls) (by show vm₁.findClass y.cls = some mk.cls; rw [hW₁.alike.findClass]; exact hyc) (text := tx) (a := q) (hZ ((T.setVm vm₁).calling (F0 m pc ls rest) mk #[.ref b]) hW₁).1 (hZ ((T.setVm vm₁).calling (F0 m pc ls rest) mk #[.ref b]) hW₁).2 (g := { method := mk, pc := 0, locals := #[.val (.ref b)], stack := [], locked := none }) rfl (by rw [hbytes]; exact d0) target h
  refine run _ ?_
  jvm_step Y₀.here [hs, hexec, hbytes, d1, (show U.vm.method? mk = some methM from Y₀.method'), hretM, Value.isRef, FieldType.isReference]
  intro acts''
  rw [hleave { method := mk, pc := 2, locals := #[.val (.ref b)], stack := [], locked := none } acts'' rfl rfl rfl]
  exact Steps.refl _
theorem vz_leafC {own C owner : String} {index pc : Nat} {x y : MethodName} {bytes : ByteArray} {w : Int32} {z : Int} (hw : narrow .char (.int w) = .int w) (hzw : (Int8.ofInt z).toInt32 = w) {b : Addr} {cellB : Cell} {Q : State → Prop} {ls : Array Slot} {rest : List Value} (hexec : p.tables.exec = Jvm.exec)
    (hown : s.vm.findClass own = some m.cls) (hlink : (Cond.methodLink own index x).before args s = true) (hsame : (Cond.sameMethod x.cls owner x.name x.desc).before args s = true)
    (hd0 : va_Decl s ⟨owner, x.name, x.desc⟩) (howner : owner ≠ "java/lang/invoke/MethodHandle" ∧ owner ≠ "java/lang/invoke/VarHandle") (hx0 : (parseMethodDescriptor x.desc).map (fun d => d.parameters.length) = some 0)
    (hsel : (Cond.selects C x y).before args s = true) (hinst : (Cond.instanceMethod y).before args s = true) (hcode : (Cond.code y bytes 1 (some .char)).before args s = true) (hpl : plainName y.cls = true)
    (d0 : decode bytes 0 = .ok (.bipush z, 2)) (d1 : decode bytes 2 = .ok (.ireturn, 1))
    (hcell : H[b]? = some cellB) (hobj : cellB.vm.isStatics = false) (hcls : s.vm.findClass C = some cellB.cls) (hls : ls.size = c.maxLocals) (hr8 : (rest.map fun v => v.category).sum ≤ 8) (hfr : 1 ≤ R.frames) (hlo : 40 ≤ R.locals) (hcl : cells ≤ R.cells) (hsl : slots ≤ R.slots) (hdg : decode c.code pc = .ok (.invokevirtual index, 3))
    (k : W p l e R s m args below meth c H locs cells slots Q (F0 m (pc + 3) ls ((.int w) :: rest))) : W p l e R s m args below meth c H locs cells slots Q (F0 m pc ls (.ref b :: rest)) := by
  intro T hT X
  obtain ⟨r0, r, hn, hrm, hstR, hsigR⟩ := hd0
  obtain ⟨cn, ck, r1, hcn, hck, hni, hf, hn1⟩ := Cond.sameMethod_found hsame
  cases hn.symm.trans hn1
  obtain ⟨mk, methM, hnamed, hmethM, -, habM⟩ := Cond.instanceMethod_spec hinst
  obtain ⟨c2, r2, m2, q1, q2, q3, q4, kP, hkP, hkPi⟩ := Cond.selects_spec hsel
  cases hcls.symm.trans q1
  cases hf.symm.trans q2
  cases hnamed.symm.trans q3
  obtain ⟨methM', cM, hmethM', hcM, hbytes, hml, hretM, hlkM, -, -⟩ := Cond.code_spec hnamed hcode
  cases hmethM.symm.trans hmethM'
  have hselP : selectMethod e.platform s.vm cellB.cls r0 = .method mk := by rw [Launch.admits_selectMethod X.admits]; exact q4
  have hl0 : ([] : List Value).length = r.sig.parameters.length := by
    rw [show parseMethodDescriptor x.desc = some r.sig from hsigR] at hx0
    exact (Option.some.inj hx0).symm
  obtain ⟨vm₁, X₁, hstep₁⟩ := X.invokevirtualUp hexec hown hlink hsame howner hn hrm hstR (a := b) (cell := cellB) (by rw [hT]; exact hcell)
    (fun z h => by rw [h] at hobj; cases hobj) hselP hmethM habM hkP hkPi (g := F0 m pc ls (.ref b :: rest)) rfl (argsL := []) (rest := rest) hl0 rfl hdg
  have hW₁ : s.WarmedH vm₁ := X₁.warmed
  have hmk : (T.setVm vm₁).vm.method? mk = some methM := by
    show vm₁.method? mk = some methM
    rw [hW₁.alike.method?]; exact hmethM
  obtain ⟨kY, hkY, hkYn⟩ := className_of_methodNamed hnamed
  obtain ⟨kY', hkY', heY⟩ := hW₁.alike.2.2 _ _ hkY
  have hpk : (T.setVm vm₁).plainMethod mk := State.plainMethod.of_name (fun k' hk' => by
    have h9 : vm₁.classes[mk.cls]? = some k' := hk'
    cases hkY'.symm.trans h9
    rw [heY]
    show plainName kY.name = true
    rw [hkYn]; exact hpl)
  obtain ⟨Y₀, hin⟩ := X₁.into (g := F0 m pc ls rest) rfl hls hdg #[.ref b] (R' := { frames := 0, locals := 16, cells := 0, slots := 0 }) hmk hcM hlkM hpk
    (by show 0 + 1 ≤ R.frames; omega) (by rw [hml]; show 2 * 0 + (rest.map fun v => v.category).sum + (1 + 11) + 16 ≤ R.locals; omega) hcl hsl
  have hin9 := hin
  have hloc : entryFrame mk #[.ref b] cM.maxLocals = { method := mk, pc := 0, locals := #[.val (.ref b)], stack := [], locked := none } := by rw [hml]; rfl
  generalize hU : ((T.setVm vm₁).setTop (F0 m pc ls rest)).pushFrame (.java (entryFrame mk #[.ref b] cM.maxLocals)) = U at Y₀ hin9
  have hvm : U.vm = vm₁ := by rw [← hU]; rfl
  have hheap : U.heap = H := by rw [← hU]; exact hT
  obtain ⟨fs, hleave, -, hended, hWe, hsameF⟩ := Y₀.leave (v := some (.int w)) (fun h => by rw [hretM] at h; cases h) hlkM
  obtain ⟨T', X', hW', -, ht⟩ := X₁.outOf (g := F0 m pc ls rest) rfl hdg hended hWe hsameF
  have hheap' : T'.heap = H := by
    have h9 : (U.setFrames fs).heap = T'.heap := by rw [ht]; rfl
    rw [← h9]; exact hheap
  rw [List.append_nil, Nat.add_zero, Nat.add_zero] at X'
  obtain ⟨t2, a1, b1⟩ := k T' hheap' X'
  refine ⟨t2, hstep₁ _ (fun acts => ?_), b1⟩
  have hs1 : (doInvoke e ((T.setVm vm₁).setTop (F0 m pc ls rest)) acts mk #[.ref b]).1 = U.setTop (entryFrame mk #[.ref b] cM.maxLocals) := hin9 acts
  refine Steps.trans ?_ a1
  show Steps p.tables e below (doInvoke e ((T.setVm vm₁).setTop (F0 m pc ls rest)) acts mk #[.ref b]).1 _
  rw [hs1, hloc]
  rw [show T'.setTop (F0 m (pc + 3) ls ((.int w) :: rest)) = U.setFrames fs from ht.symm]
  refine Steps.weaken (mid := [.java (F0 m pc ls rest)]) ?_
  have hs : U.topJava?.isSome := Y₀.here.top
  have hyc : _ := findClass_of_methodNamed hnamed
  have run : ∀ target, Steps p.tables e (.java (F0 m pc ls rest) :: below) (U.setTop { method := mk, pc := 2, locals := #[.val (.ref b)], stack := [(.int w)], locked := none }) target → Steps p.tables e (.java (F0 m pc ls rest) :: below) (U.setTop { method := mk, pc := 0, locals := #[.val (.ref b)], stack := [], locked := none }) target := by
    intro target h
    jvm_step Y₀.here [hexec, hbytes, d0]
    first
      | exact h
      | (rw [← hzw] at h; exact h)
      | (subst hzw; simpa using h)
  refine run _ ?_
  jvm_step Y₀.here [hs, hexec, hbytes, d1, (show U.vm.method? mk = some methM from Y₀.method'), hretM, Value.isRef, FieldType.isReference, hw]
  intro acts''
  rw [hleave { method := mk, pc := 2, locals := #[.val (.ref b)], stack := [], locked := none } acts'' rfl rfl rfl]
  exact Steps.refl _
end L27
section L27b
variable {M : xM} {d pc : Nat} {l : List (Nat × Value)} {rest : List Value} {g : xG} {Q : Option Value ⊕ Nat → xG → Prop}
theorem xw_word0 {idx : Nat} (ht : xtag g ((xE g).2.2.1 0) = 61) (hl : Cond.methodLink M.1.cls idx ⟨"PolicyNotation$Effect", "word", "()Ljava/lang/String;"⟩ ∈ lw_all) (hd : decode M.2.1 pc = .ok (.invokevirtual idx, 3)) (hr : (rest.map fun v => v.category).sum ≤ 8) (k : XW M (d + 1) (pc + 3) l (.ref ((xE g).2.2.1 15) :: rest) g Q) : XW M (d + 1) pc l (.ref ((xE g).2.2.1 0) :: rest) g Q :=
  xw_readC (fun p L e R s m args below meth c H locs cells slots Qf ls C hR hS hl9 hlo hf hc hs kk => by
    have hts := C.2.2.2.2.2.1
    have hK := C.2.2.2.2.2.2.2.2.2.2.1
    obtain ⟨cell, k1, k2, k3⟩ := x_any hK hR (show xcls (xtag g ((xE g).2.2.1 0)) = true by rw [ht]; rfl)
    rw [ht] at k3
    exact vz_leafA (own := M.1.cls) (C := "PolicyNotation$Effect$1") (owner := "PolicyNotation$Effect") (x := ⟨"PolicyNotation$Effect", "word", "()Ljava/lang/String;"⟩) (y := ⟨"PolicyNotation$Effect$1", "word", "()Ljava/lang/String;"⟩) C.1 C.2.2.2.2.1 (hts _ hl) (hts _ q2153) (Cond.declares_spec (va_Nw.use (A := args) rfl (hK.2.2.2.1 _ q2152 (Or.inr (Or.inr (Or.inr (Or.inl ⟨_, rfl⟩))))))) ⟨by decide, by decide⟩ (by decide +kernel) (hts _ q2154) (hts _ q2155) (hts _ q2156) (by decide +kernel) (fun U hU => (hK.moved hU).2.2.2.2.2.2.2.1 5 _ rfl) dX21_word_0 dX21_word_2 k1 k2 k3 (by rw [C.2.2.2.1]; exact hl9.1) hr (by omega) (by unfold xloc at hlo; omega) hc hs (by rw [C.2.1]; exact hd) kk) k
theorem xw_head0 {idx : Nat} (ht : xtag g ((xE g).2.2.1 0) = 61) (hl : Cond.methodLink M.1.cls idx ⟨"PolicyNotation$Effect", "head", "()C"⟩ ∈ lw_all) (hd : decode M.2.1 pc = .ok (.invokevirtual idx, 3)) (hr : (rest.map fun v => v.category).sum ≤ 8) (k : XW M (d + 1) (pc + 3) l (.int (nI 112) :: rest) g Q) : XW M (d + 1) pc l (.ref ((xE g).2.2.1 0) :: rest) g Q :=
  xw_readC (fun p L e R s m args below meth c H locs cells slots Qf ls C hR hS hl9 hlo hf hc hs kk => by
    have hts := C.2.2.2.2.2.1
    have hK := C.2.2.2.2.2.2.2.2.2.2.1
    obtain ⟨cell, k1, k2, k3⟩ := x_any hK hR (show xcls (xtag g ((xE g).2.2.1 0)) = true by rw [ht]; rfl)
    rw [ht] at k3
    exact vz_leafC (own := M.1.cls) (C := "PolicyNotation$Effect$1") (owner := "PolicyNotation$Effect") (x := ⟨"PolicyNotation$Effect", "head", "()C"⟩) (y := ⟨"PolicyNotation$Effect$1", "head", "()C"⟩) (w := nI 112) (by decide +kernel) (by decide +kernel) C.1 C.2.2.2.2.1 (hts _ hl) (hts _ q2003) (Cond.declares_spec (va_Nw.use (A := args) rfl (hK.2.2.2.1 _ q2002 (Or.inr (Or.inr (Or.inr (Or.inl ⟨_, rfl⟩))))))) ⟨by decide, by decide⟩ (by decide +kernel) (hts _ q2004) (hts _ q2005) (hts _ q2006) (by decide +kernel)  dX21_head_0 dX21_head_2 k1 k2 k3 (by rw [C.2.2.2.1]; exact hl9.1) hr (by omega) (by unfold xloc at hlo; omega) hc hs (by rw [C.2.1]; exact hd) kk) k
theorem xw_word1 {idx : Nat} (ht : xtag g ((xE g).2.2.1 1) = 62) (hl : Cond.methodLink M.1.cls idx ⟨"PolicyNotation$Effect", "word", "()Ljava/lang/String;"⟩ ∈ lw_all) (hd : decode M.2.1 pc = .ok (.invokevirtual idx, 3)) (hr : (rest.map fun v => v.category).sum ≤ 8) (k : XW M (d + 1) (pc + 3) l (.ref ((xE g).2.2.1 16) :: rest) g Q) : XW M (d + 1) pc l (.ref ((xE g).2.2.1 1) :: rest) g Q :=
  xw_readC (fun p L e R s m args below meth c H locs cells slots Qf ls C hR hS hl9 hlo hf hc hs kk => by
    have hts := C.2.2.2.2.2.1
    have hK := C.2.2.2.2.2.2.2.2.2.2.1
    obtain ⟨cell, k1, k2, k3⟩ := x_any hK hR (show xcls (xtag g ((xE g).2.2.1 1)) = true by rw [ht]; rfl)
    rw [ht] at k3
    exact vz_leafA (own := M.1.cls) (C := "PolicyNotation$Effect$2") (owner := "PolicyNotation$Effect") (x := ⟨"PolicyNotation$Effect", "word", "()Ljava/lang/String;"⟩) (y := ⟨"PolicyNotation$Effect$2", "word", "()Ljava/lang/String;"⟩) C.1 C.2.2.2.2.1 (hts _ hl) (hts _ q2153) (Cond.declares_spec (va_Nw.use (A := args) rfl (hK.2.2.2.1 _ q2152 (Or.inr (Or.inr (Or.inr (Or.inl ⟨_, rfl⟩))))))) ⟨by decide, by decide⟩ (by decide +kernel) (hts _ q2158) (hts _ q2159) (hts _ q2160) (by decide +kernel) (fun U hU => (hK.moved hU).2.2.2.2.2.2.2.1 6 _ rfl) dX22_word_0 dX22_word_2 k1 k2 k3 (by rw [C.2.2.2.1]; exact hl9.1) hr (by omega) (by unfold xloc at hlo; omega) hc hs (by rw [C.2.1]; exact hd) kk) k
theorem xw_head1 {idx : Nat} (ht : xtag g ((xE g).2.2.1 1) = 62) (hl : Cond.methodLink M.1.cls idx ⟨"PolicyNotation$Effect", "head", "()C"⟩ ∈ lw_all) (hd : decode M.2.1 pc = .ok (.invokevirtual idx, 3)) (hr : (rest.map fun v => v.category).sum ≤ 8) (k : XW M (d + 1) (pc + 3) l (.int (nI 102) :: rest) g Q) : XW M (d + 1) pc l (.ref ((xE g).2.2.1 1) :: rest) g Q :=
  xw_readC (fun p L e R s m args below meth c H locs cells slots Qf ls C hR hS hl9 hlo hf hc hs kk => by
    have hts := C.2.2.2.2.2.1
    have hK := C.2.2.2.2.2.2.2.2.2.2.1
    obtain ⟨cell, k1, k2, k3⟩ := x_any hK hR (show xcls (xtag g ((xE g).2.2.1 1)) = true by rw [ht]; rfl)
    rw [ht] at k3
    exact vz_leafC (own := M.1.cls) (C := "PolicyNotation$Effect$2") (owner := "PolicyNotation$Effect") (x := ⟨"PolicyNotation$Effect", "head", "()C"⟩) (y := ⟨"PolicyNotation$Effect$2", "head", "()C"⟩) (w := nI 102) (by decide +kernel) (by decide +kernel) C.1 C.2.2.2.2.1 (hts _ hl) (hts _ q2003) (Cond.declares_spec (va_Nw.use (A := args) rfl (hK.2.2.2.1 _ q2002 (Or.inr (Or.inr (Or.inr (Or.inl ⟨_, rfl⟩))))))) ⟨by decide, by decide⟩ (by decide +kernel) (hts _ q2007) (hts _ q2008) (hts _ q2009) (by decide +kernel)  dX22_head_0 dX22_head_2 k1 k2 k3 (by rw [C.2.2.2.1]; exact hl9.1) hr (by omega) (by unfold xloc at hlo; omega) hc hs (by rw [C.2.1]; exact hd) kk) k
theorem xw_word2 {idx : Nat} (ht : xtag g ((xE g).2.2.1 2) = 63) (hl : Cond.methodLink M.1.cls idx ⟨"PolicyNotation$Effect", "word", "()Ljava/lang/String;"⟩ ∈ lw_all) (hd : decode M.2.1 pc = .ok (.invokevirtual idx, 3)) (hr : (rest.map fun v => v.category).sum ≤ 8) (k : XW M (d + 1) (pc + 3) l (.ref ((xE g).2.2.1 17) :: rest) g Q) : XW M (d + 1) pc l (.ref ((xE g).2.2.1 2) :: rest) g Q :=
  xw_readC (fun p L e R s m args below meth c H locs cells slots Qf ls C hR hS hl9 hlo hf hc hs kk => by
    have hts := C.2.2.2.2.2.1
    have hK := C.2.2.2.2.2.2.2.2.2.2.1
    obtain ⟨cell, k1, k2, k3⟩ := x_any hK hR (show xcls (xtag g ((xE g).2.2.1 2)) = true by rw [ht]; rfl)
    rw [ht] at k3
    exact vz_leafA (own := M.1.cls) (C := "PolicyNotation$Effect$3") (owner := "PolicyNotation$Effect") (x := ⟨"PolicyNotation$Effect", "word", "()Ljava/lang/String;"⟩) (y := ⟨"PolicyNotation$Effect$3", "word", "()Ljava/lang/String;"⟩) C.1 C.2.2.2.2.1 (hts _ hl) (hts _ q2153) (Cond.declares_spec (va_Nw.use (A := args) rfl (hK.2.2.2.1 _ q2152 (Or.inr (Or.inr (Or.inr (Or.inl ⟨_, rfl⟩))))))) ⟨by decide, by decide⟩ (by decide +kernel) (hts _ q2162) (hts _ q2163) (hts _ q2164) (by decide +kernel) (fun U hU => (hK.moved hU).2.2.2.2.2.2.2.1 7 _ rfl) dX23_word_0 dX23_word_2 k1 k2 k3 (by rw [C.2.2.2.1]; exact hl9.1) hr (by omega) (by unfold xloc at hlo; omega) hc hs (by rw [C.2.1]; exact hd) kk) k
theorem xw_head2 {idx : Nat} (ht : xtag g ((xE g).2.2.1 2) = 63) (hl : Cond.methodLink M.1.cls idx ⟨"PolicyNotation$Effect", "head", "()C"⟩ ∈ lw_all) (hd : decode M.2.1 pc = .ok (.invokevirtual idx, 3)) (hr : (rest.map fun v => v.category).sum ≤ 8) (k : XW M (d + 1) (pc + 3) l (.int (nI 108) :: rest) g Q) : XW M (d + 1) pc l (.ref ((xE g).2.2.1 2) :: rest) g Q :=
  xw_readC (fun p L e R s m args below meth c H locs cells slots Qf ls C hR hS hl9 hlo hf hc hs kk => by
    have hts := C.2.2.2.2.2.1
    have hK := C.2.2.2.2.2.2.2.2.2.2.1
    obtain ⟨cell, k1, k2, k3⟩ := x_any hK hR (show xcls (xtag g ((xE g).2.2.1 2)) = true by rw [ht]; rfl)
    rw [ht] at k3
    exact vz_leafC (own := M.1.cls) (C := "PolicyNotation$Effect$3") (owner := "PolicyNotation$Effect") (x := ⟨"PolicyNotation$Effect", "head", "()C"⟩) (y := ⟨"PolicyNotation$Effect$3", "head", "()C"⟩) (w := nI 108) (by decide +kernel) (by decide +kernel) C.1 C.2.2.2.2.1 (hts _ hl) (hts _ q2003) (Cond.declares_spec (va_Nw.use (A := args) rfl (hK.2.2.2.1 _ q2002 (Or.inr (Or.inr (Or.inr (Or.inl ⟨_, rfl⟩))))))) ⟨by decide, by decide⟩ (by decide +kernel) (hts _ q2010) (hts _ q2011) (hts _ q2012) (by decide +kernel)  dX23_head_0 dX23_head_2 k1 k2 k3 (by rw [C.2.2.2.1]; exact hl9.1) hr (by omega) (by unfold xloc at hlo; omega) hc hs (by rw [C.2.1]; exact hd) kk) k
end L27b
