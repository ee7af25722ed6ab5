/-! CORE 23: calls of lambda objects -/
set_option maxRecDepth 100000
section L23
variable {p : Program} {l : Launch} {e : Env} {R : Room} {s : State} {m : MethodId} {args : Array Value} {below : List Frame} {meth : Method} {c : Code} {H : Heap} {locs : List Loc} {cells slots : Nat}
/-- what is known of the method of a lambda's class -/
def vz_F (vm : Vm) (cK : ClassId) (code : ByteArray) (rt : FieldType) : Prop := ∃ (k : Class) (methk : Method) (ck : Code), vm.classes[cK]? = some k ∧ plainName k.name = true ∧ vm.method? ⟨cK, 1⟩ = some methk ∧ methk.code = some ck ∧ ck.code = code ∧ ck.maxLocals = 2 ∧ methk.locks = false ∧ methk.accessFlags = 0x0001 ∧ methk.sig.returnType = some rt
/-- the way to the call within that method -/
def vz_P (p : Program) (e : Env) (l : Launch) (s : State) (H : Heap) (cK : ClassId) (a : Addr) (br : Addr) (code : ByteArray) (pcC : Nat) (as : Array Value) (t : MethodId) : Prop :=
  ∀ (R' : Room) (s' : State) (below' : List Frame) (U : State) (methk : Method) (ck : Code), Stand p l e R' s' ⟨cK, 1⟩ #[.ref a, .ref br] below' methk ck U [] 0 0 → U.heap = H → s.WarmedH U.vm → ck.code = code →
    ∀ target, (∀ acts, Steps p.tables e below' (doInvoke e (U.setTop { method := ⟨cK, 1⟩, pc := pcC, locals := #[.val (.ref a), .val (.ref br)], stack := [], locked := none }) acts t as).1 target) →
      Steps p.tables e below' (U.setTop { method := ⟨cK, 1⟩, pc := 0, locals := #[.val (.ref a), .val (.ref br)], stack := [], locked := none }) target
theorem vz_lam {own : String} {index count pc pcC mc ms maxL : Nat} {x y : MethodName} {bytes code : ByteArray} {ret : Option FieldType} {rt : FieldType} {ws : List Cond} {rm : Room} {Pc : Array Value → State → Prop} {Qc : Array Value → State → Outcome → State → Prop} {XC : String → Addr → State → State → Prop} {free : Addr → Prop} {ls : Array Slot} {rest : List Value} {ig : Instr}
    {d : ClassId} {σ : Lambda.Shape} {a : Addr} {cell : Cell} {br : Addr} {as : Array Value}
    (hexec : p.tables.exec = Jvm.exec) (hown : s.vm.findClass own = some m.cls) (hlink : (Cond.methodLink own index x).before args s = true) (hdecl : (Cond.declares x).before args s = true) (hface : (Cond.interfaceMethod x.cls x.cls x.name x.desc).before args s = true)
    (hx : x.cls ≠ "java/lang/invoke/MethodHandle" ∧ x.cls ≠ "java/lang/invoke/VarHandle") (hxl : (parseMethodDescriptor x.desc).map (fun d => d.parameters.length) = some 1)
    (hcell : H[a]? = some cell) (hobj : cell.vm = .none) (hmade : Lambda.isMade { classPath := fun _ => none } s.vm d σ cell.cls = true) (hcan : s.lambdaCallable σ cell.cls = true) (hσ : σ.iface = x.cls ∧ σ.name = x.name ∧ σ.sam.toString = x.desc)
    (hF : ∀ vm₁ : Vm, s.WarmedH vm₁ → vz_F vm₁ cell.cls code rt)
    (hM : vx_Met l y ws rm Pc Qc XC mc ms free) (hblind : FrameBlind Pc) (hrc : rm.cells = mc) (hrs : rm.slots = ms) (hws : ∀ w ∈ ws, ∀ (a' : Array Value) (U : State), s.WarmedH U.vm → w.before a' U = true) (hcode : Cond.code y bytes maxL ret ∈ ws) (hini : ∀ (a' : Array Value) (U : State), s.WarmedH U.vm → (Cond.initialized y.cls).before a' U = true)
    {t : MethodId} (hy : s.methodNamed? y = some t)
    (hPc : ∀ U : State, U.heap = H → s.WarmedH U.vm → Pc as U) (hXC : ∀ E q st t, ¬ XC E q st t) (hQn : ∀ b st v t, Qc b st (.returned v) t → ∃ w : Int32, v = some (.int w) ∧ narrow rt (.int w) = .int w)
    (hP : vz_P p e l s H cell.cls a br code pcC as t) (hC : decode code pcC = .ok (ig, 3)) (hRet : decode code (pcC + 3) = .ok (.ireturn, 1)) (hrt : rt = .int ∨ rt = .boolean)
    (hls : ls.size = c.maxLocals) (hr8 : (rest.map fun v => v.category).sum ≤ 8) (hfr : rm.frames + 2 ≤ R.frames) (hlo : 40 + (maxL + 11) + rm.locals ≤ R.locals) (hcl : cells + mc ≤ R.cells) (hsl : slots + ms ≤ R.slots)
    (hdg : decode c.code pc = .ok (.invokeinterface index count, 5)) :
    vx_Run5 p l e R s m args below meth c H locs cells slots mc ms (F0 m pc ls (.ref br :: .ref a :: rest)) rest (Qc as) XC free := by
  intro T hT X
  obtain ⟨r0, r, hn, hrm, hstR, hsigR⟩ := Cond.declares_spec hdecl
  obtain ⟨cL, kL, r1, hcL, hkL, hiL, hfoundL, hn1⟩ := Cond.interfaceMethod_spec hface
  cases hn.symm.trans hn1
  have hr0cls : r0.cls = cL := Option.some.inj ((findClass_of_methodNamed hn).symm.trans hcL)
  obtain ⟨hnameR, hdescR⟩ := name_of_methodNamed hn hrm
  obtain ⟨-, -, -, -, -, -, -, iface', -, -, -, -, found, -, -, -, -, -, hi', -, -, -, -, -, -, hfound', -, -, -, -, -, -, -, -, -, -, hsel⟩ := Lambda.isMade_spec hmade
  rw [hσ.1] at hi'
  cases hcL.symm.trans hi'
  have hfr0 : found = r0 := by
    have h1 : s.methodFound? x.cls x.name x.desc = some r0 := hfoundL
    simp only [State.methodFound?, hcL, hkL, hiL, Option.bind_eq_bind, Option.bind_some] at h1
    rw [hσ.2.1, hσ.2.2] at hfound'
    rw [hfound'] at h1
    exact Option.some.inj h1
  subst hfr0
  obtain ⟨i2, hi2, hasg, hway⟩ := State.lambdaCallable_spec hcan
  rw [hσ.1] at hi2
  cases hcL.symm.trans hi2
  rw [hσ.2.1, hσ.2.2] at hway
  obtain ⟨k0, methk0, ck0, hk0, -, hmk0, -, -, -, -, hfl0, -⟩ := hF s.vm (State.WarmedH.refl s)
  have hl1 : [Value.ref br].length = r.sig.parameters.length := by
    rw [hsigR] at hxl
    exact (Option.some.inj hxl).symm
  obtain ⟨vm₁, X₁, hstep₁⟩ := X.invokeinterface hexec hown hlink hn hrm hstR (by rw [hr0cls]; exact hkL) hiL hx (a := a) (cell := cell) (kcell := k0) (by rw [hT]; exact hcell) (fun z h => by rw [hobj] at h; cases h) hk0 (by rw [hr0cls]; exact hasg)
    (m' := ⟨cell.cls, 1⟩) (meth' := methk0) (by rw [Launch.admits_selectMethod X.admits]; exact hsel) hmk0 (by rw [hnameR, hdescR]; exact hway) (by rw [hfl0]; decide) (by simp [Method.isAbstract, hfl0, hasFlag, Acc.abstract])
    (g := F0 m pc ls (.ref br :: .ref a :: rest)) rfl (argsL := [.ref br]) (rest := rest) hl1 rfl hdg
  have hW₁ : s.WarmedH vm₁ := X₁.warmed
  obtain ⟨k, methk, ck, hk, hkn, hmk, hck, hbytes, hml, hlk, hfl, hretk⟩ := hF vm₁ hW₁
  have hpk : (T.setVm vm₁).plainMethod ⟨cell.cls, 1⟩ := State.plainMethod.of_name (fun k' hk' => by cases hk.symm.trans hk'; exact hkn)
  obtain ⟨Y₀, hin⟩ := X₁.into (g := F0 m pc ls rest) rfl hls hdg #[.ref a, .ref br] (R' := { frames := rm.frames + 1, locals := 8 + (maxL + 11) + rm.locals, cells := mc, slots := ms }) hmk hck hlk hpk
    (by show rm.frames + 1 + 1 ≤ R.frames; omega) (by rw [hml]; show 2 * 0 + (rest.map fun v => v.category).sum + (2 + 11) + (8 + (maxL + 11) + rm.locals) ≤ R.locals; omega) hcl hsl
  have hin9 := hin
  generalize hU : ((T.setVm vm₁).setTop (F0 m pc ls rest)).pushFrame (.java (entryFrame ⟨cell.cls, 1⟩ #[.ref a, .ref br] ck.maxLocals)) = U at Y₀ hin9
  have hvm : U.vm = vm₁ := by rw [← hU]; rfl
  have hheap : U.heap = H := by rw [← hU]; exact hT
  have hWs : ∀ V : State, ((T.setVm vm₁).calling (F0 m pc ls rest) ⟨cell.cls, 1⟩ #[.ref a, .ref br]).WarmedH V.vm → s.WarmedH V.vm := fun V hV => State.WarmedH.trans (t := (T.setVm vm₁).calling (F0 m pc ls rest) ⟨cell.cls, 1⟩ #[.ref a, .ref br]) hW₁ hV
  have hK : vx_Back l { frames := rm.frames + 1, locals := 8 + (maxL + 11) + rm.locals, cells := mc, slots := ms } p e (.java (F0 m pc ls rest) :: below) ((T.setVm vm₁).calling (F0 m pc ls rest) ⟨cell.cls, 1⟩ #[.ref a, .ref br]) #[.ref a, .ref br] y 3 8 (PreOf { frames := rm.frames + 1, locals := 8 + (maxL + 11) + rm.locals, cells := mc, slots := ms } mc ms Pc) (PostOf Qc mc ms free) (vx_Post XC mc ms free) :=
    vx_back (bytes := bytes) (maxL := maxL) (ret := ret) hM hblind hrc hrs (Nat.le_refl _) (Nat.le_refl _) (fun w hw a' V hV => hws w hw a' V (hWs V hV)) hcode (fun a' V hV => hini a' V (hWs V hV))
  have hyU : U.methodNamed? y = some t := by
    have h9 : (s.setVm vm₁).methodNamed? y = s.methodNamed? y := State.methodNamed?_setVm (s := s) hW₁.alike y
    have h8 : U.methodNamed? y = (s.setVm vm₁).methodNamed? y := by
      unfold State.methodNamed?
      rw [hvm]
      rfl
    rw [h8, h9]
    exact hy
  rcases hK ⟨cell.cls, 1⟩ methk ck ⟨U, [], 0, 0⟩ { method := ⟨cell.cls, 1⟩, pc := pcC, locals := #[.val (.ref a), .val (.ref br)], stack := [], locked := none } ig t as Y₀ rfl (by rw [hml]; rfl) (by rw [hbytes]; exact hC) (Nat.zero_le _) hyU ⟨by show 0 + mc ≤ mc; omega, by show 0 + ms ≤ ms; omega, hPc U hheap (by rw [hvm]; exact hW₁)⟩ with ⟨v, ⟨U', l2, c2, s2⟩, Y₁, ⟨g', mk, tt, L, e1, e2, hq, h1, hL, h2, h3⟩, hsteps⟩ | ⟨q, ⟨U', l2, c2, s2⟩, Y₁, ⟨g', mk, tt, L, E, ce, e1, e2, hq, -⟩, -⟩
  · dsimp only [Pt.U, Pt.locs, Pt.cells, Pt.slots] at Y₁ e1 e2 h1 h2 h3 hsteps hq
    subst h1; subst h2; subst h3
    obtain ⟨w, rfl, hnw⟩ := hQn _ _ _ _ hq
    obtain ⟨fs, hleave, -, hended, hWe, hsame⟩ := Y₁.leave (v := some (.int w)) (fun h => by rw [hretk] at h; cases h) hlk
    obtain ⟨T', X', hW', -, ht⟩ := X₁.outOf (g := F0 m pc ls rest) rfl hdg hended hWe hsame
    have hheap' : T'.heap = tt.heap := by
      have h9 : (U'.setFrames fs).heap = T'.heap := by rw [ht]; rfl
      rw [← h9]; exact e1
    have hvm' : T'.vm = tt.vm := by
      have h9 : (U'.setFrames fs).vm = T'.vm := by rw [ht]; rfl
      rw [← h9]; exact e2
    have e0 : cells + (0 + mc) = cells + mc := by omega
    have e00 : slots + (0 + ms) = slots + ms := by omega
    rw [e0, e00] at X'
    refine Or.inl ⟨some (.int w), U.calling g' mk as, tt, T', l2, by rw [← hheap]; rfl, X', hL, hheap', hvm', hq, fun target h => hstep₁ _ fun acts => ?_⟩
    have hs1 : (doInvoke e ((T.setVm vm₁).setTop (F0 m pc ls rest)) acts ⟨cell.cls, 1⟩ #[.ref a, .ref br]).1 = U.setTop (entryFrame ⟨cell.cls, 1⟩ #[.ref a, .ref br] ck.maxLocals) := hin9 acts
    have hloc : entryFrame ⟨cell.cls, 1⟩ #[.ref a, .ref br] ck.maxLocals = { method := ⟨cell.cls, 1⟩, pc := 0, locals := #[.val (.ref a), .val (.ref br)], stack := [], locked := none } := by rw [hml]; rfl
    refine Steps.trans ?_ h
    show Steps p.tables e below (doInvoke e ((T.setVm vm₁).setTop (F0 m pc ls rest)) acts ⟨cell.cls, 1⟩ #[.ref a, .ref br]).1 _
    rw [hs1, hloc]
    show Steps p.tables e below _ (T'.setTop { F0 m pc ls rest with pc := pc + 5, stack := (some (Value.int w)).toList ++ rest })
    rw [show T'.setTop { F0 m pc ls rest with pc := pc + 5, stack := (some (Value.int w)).toList ++ rest } = U'.setFrames fs from ht.symm]
    refine Steps.weaken (mid := [.java (F0 m pc ls rest)]) ?_
    refine hP _ _ _ U methk ck Y₀ hheap (by rw [hvm]; exact hW₁) hbytes _ fun acts' => ?_
    rw [doInvoke_state]
    refine hsteps.trans ?_
    show Steps p.tables e (.java (F0 m pc ls rest) :: below) (U'.setTop { method := ⟨cell.cls, 1⟩, pc := pcC + 3, locals := #[.val (.ref a), .val (.ref br)], stack := [.int w], locked := none }) _
    have hs : U'.topJava?.isSome := Y₁.here.top
    jvm_step Y₁.here [hs, hexec, hbytes, hRet, (show U'.vm.method? ⟨cell.cls, 1⟩ = some methk from Y₁.method'), hretk, hnw]
    intro acts''
    rw [hleave { method := ⟨cell.cls, 1⟩, pc := pcC + 3, locals := #[.val (.ref a), .val (.ref br)], stack := [], locked := none } acts'' rfl rfl rfl]
    exact Steps.refl _
  · exact absurd hq (hXC _ _ _ _)
end L23
