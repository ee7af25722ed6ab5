/-! CORE 2: what the tables say, the judgements, a method's entry -/
set_option maxRecDepth 100000
/-- a lambda's site, linked: c is the class of its objects, lk its record -/
def xLam (U : State) (x : MethodName) (pc index : Nat) (sh : Lambda.Shape) (c : ClassId) (lk : Linked) : Prop := ∃ (m : MethodId) (k : Class) (cf : ClassFile) (i0 p0 : Nat), U.methodNamed? x = some m ∧ U.vm.classes[m.cls]? = some k ∧ k.cf = some cf ∧ Lambda.shapeOf? cf index = some sh ∧
  (k.callSites.find? fun y => y.1 == m.idx && y.2.1 == pc) = some (i0, p0, lk) ∧ Lambda.isMade { classPath := fun _ => none } U.vm m.cls sh c = true ∧ U.lambdaCallable sh c = true
theorem xLam.moved {u U : State} {x : MethodName} {pc index : Nat} {sh : Lambda.Shape} {c : ClassId} {lk : Linked} (hW : u.WarmedH U.vm) (h : xLam u x pc index sh c lk) : xLam U x pc index sh c lk := by
  obtain ⟨m, k, cf, i0, p0, hm, hk, hcf, hsh, hfind, hmade, hcall⟩ := h
  have hcall' : U.lambdaCallable sh c = true := by
    have hA := hW.alike
    simp only [State.lambdaCallable, hA.findClass, hA.assignable, hA.superclasses, hA.declaredIn] at hcall ⊢
    exact hcall
  obtain ⟨k', hk', he⟩ := hW.alike.2.2 _ _ hk
  have hm' : U.methodNamed? x = some m := by
    have := State.methodNamed?_setVm (s := u) hW.alike x
    rw [hm] at this
    exact this
  exact ⟨m, k', cf, i0, p0, hm', hk', by rw [he]; exact hcf, hsh, by rw [he]; exact hfind, Lambda.isMade_warmer hW hmade, hcall'⟩
/-- the lambdas' sites: who, pc, operand, shape, tag of the objects, place of the one object in the env (where nothing is caught) -/
def xsh (iface name : String) (p : String) (r : FieldType) (cap : List FieldType) (kind : Nat) (ic im : String) (idp : List FieldType) : Lambda.Shape := { iface := iface, name := name, sam := { parameters := [.object p], returnType := some r }, captured := cap, kind := kind, implClass := ic, implName := im, implDesc := { parameters := idp, returnType := some r }, implItf := false, inst := { parameters := [.object p], returnType := some r } }
def xsites : List (MethodName × Nat × Nat × Lambda.Shape × Nat) := [
  (⟨"PolicyNotation", "tested", "()I"⟩, 2, 414, xsh "PolicyNotation$Told" "of" "PolicyNotation$Work" .int [.object "PolicyNotation"] 5 "PolicyNotation" "chained" [.object "PolicyNotation$Work"], 71),
  (⟨"PolicyNotation", "scopeOf", "(II)I"⟩, 93, 215, xsh "PolicyNotation$Asked" "is" "PolicyNotation$Rule" .boolean [.int] 6 "PolicyNotation" "lambda$scopeOf$0" [.int, .object "PolicyNotation$Rule"], 72),
  (⟨"PolicyNotation$Policy", "count", "(LPolicyNotation$Asked;)I"⟩, 2, 95, xsh "PolicyNotation$Counted" "of" "PolicyNotation$Rule" .int [.object "PolicyNotation$Asked"] 6 "PolicyNotation$Policy" "lambda$count$0" [.object "PolicyNotation$Asked", .object "PolicyNotation$Rule"], 73),
  (⟨"PolicyNotation", "ruleOf", "(II)I"⟩, 123, 306, xsh "PolicyNotation$Asked" "is" "PolicyNotation$Rule" .boolean [.int] 6 "PolicyNotation" "lambda$ruleOf$1" [.int, .object "PolicyNotation$Rule"], 74),
  (⟨"PolicyNotation", "without", "(I)I"⟩, 14, 427, xsh "PolicyNotation$Told" "of" "PolicyNotation$Work" .int [.object "PolicyNotation", .int] 5 "PolicyNotation" "lambda$without$2" [.int, .object "PolicyNotation$Work"], 75),
  (⟨"PolicyNotation", "account", "(I)I"⟩, 94, 542, xsh "PolicyNotation$Asked" "is" "PolicyNotation$Rule" .boolean [] 6 "PolicyNotation" "lambda$account$3" [.object "PolicyNotation$Rule"], 76),
  (⟨"PolicyNotation", "account", "(I)I"⟩, 109, 545, xsh "PolicyNotation$Counted" "of" "PolicyNotation$Rule" .int [] 6 "PolicyNotation" "lambda$account$4" [.object "PolicyNotation$Rule"], 77),
  (⟨"PolicyNotation", "account", "(I)I"⟩, 142, 554, xsh "PolicyNotation$Told" "of" "PolicyNotation$Work" .int [.object "PolicyNotation"] 5 "PolicyNotation" "lambda$account$5" [.object "PolicyNotation$Work"], 78)]
/-- the record of a site: made anew, or the one object -/
def xlk (E : xEnv) (t : Nat) : Linked := if t = 76 ∨ t = 77 then .constant (E.2.2.1 t) else .makes (E.2.1 t)
/-- words that don't ride in the lists, and hold all the same -/
def xwarm (w : Cond) : Prop := (∃ a i b n d h, w = .fieldLinkNest a i b n d h) ∨ (∃ a i x h, w = .methodLinkNest a i x h) ∨ (∃ C T, w = .castable C T) ∨ (∃ x, w = .declares x) ∨ (∃ x, w = .privateMethod x) ∨ (∃ r n b, (r ≠ "java/lang/invoke/MethodHandle" ∧ r ≠ "java/lang/invoke/VarHandle") ∧ w = .interfaceMethod r r n b)
theorem va_Nw.moved {w : Cond} (hw : xwarm w) {s U : State} (hW : s.WarmedH U.vm) (h : va_Nw w s) : va_Nw w U := by
  rcases hw with ⟨a, i, b, n, d, h9, rfl⟩ | ⟨a, i, x, h9, rfl⟩ | ⟨C, T, rfl⟩ | ⟨x, rfl⟩ | ⟨x, rfl⟩ | ⟨r, n, b, hx, rfl⟩
  · exact va_Nw.warmF hW h
  · exact va_Nw.warmM hW h
  · exact va_Nw.warmC hW h
  · exact va_Nw.warmD hW h
  · exact va_tabs (u := s.setVm U.vm) rfl rfl ((Cond.privateMethod_setVm hW.alike x).trans h)
  · obtain ⟨_, _, mm, -, -, -, -, hn⟩ := Cond.interfaceMethod_spec h
    exact va_tabs (u := s.setVm U.vm) rfl rfl ((Cond.interfaceMethod_setVm hW.alike hn hx).trans h)
def va_AA (t : FieldType) (U : State) : Prop := (Cond.arrayOver (.array t)).before #[] U = true
theorem va_AA.moved {t : FieldType} {u U : State} (hvm : u.vm.Alike U.vm) (h : va_AA t u) : va_AA t U := by
  obtain ⟨comp, c, k, h1, h2, h3, h4, h5⟩ := arrayOverA_spec h
  obtain ⟨k', hk', he⟩ := hvm.2.2 _ _ h3
  have hi : (U.vm.classes.findIdx? fun (x : Class) => match x.kind with | .array component _ => component == comp | _ => false) = some c := by
    have e1 := va_idx_bare U.vm comp
    have e2 := va_idx_bare u.vm comp
    first
      | (rw [hvm.bare_eq] at e1; exact e1.symm.trans (e2.trans h2))
      | (rw [← hvm.bare_eq] at e1; exact e1.symm.trans (e2.trans h2))
  have hkind : k'.kind = .array comp (.array t) := by rw [he]; exact h4
  have f1 : U.vm.findClass (FieldType.array t).toString = some comp := by rw [hvm.findClass]; exact h1
  have f2 : U.vm.findClass ("[" ++ (FieldType.array t).toString) = some c := by rw [hvm.findClass]; exact h5
  unfold va_AA Cond.before Cond.holds
  simp only [Cond.value]
  rw [f1, Option.bind_some]
  refine (congrArg (fun o : Option Nat => (o.bind (fun c => (U.vm.classes[c]?).map fun (k : Class) => match k.kind with | .array _ ty => decide (ty = FieldType.array t) && decide (U.vm.findClass ("[" ++ (FieldType.array t).toString) = some c) | _ => false) == some true)) hi).trans ?_
  simp [hk', hkind, f2]
/-- reference arrays that are made -/
def xao : List String := ["java/lang/Object", "PolicyNotation$Test", "PolicyNotation$Equal", "PolicyNotation$Less", "PolicyNotation$Greater", "PolicyNotation$Unlike"]
/-- calls by an interface, of a class's own method -/
def xfw : List (String × MethodName × MethodName) := [("java/lang/StringBuilder", ⟨"java/lang/CharSequence", "length", "()I"⟩, ⟨"java/lang/StringBuilder", "length", "()I"⟩), ("java/lang/StringBuilder", ⟨"java/lang/CharSequence", "charAt", "(I)C"⟩, ⟨"java/lang/StringBuilder", "charAt", "(I)C"⟩)]
def xK (E : xEnv) (U : State) : Prop :=
  (∀ (k : Nat) (q : vw_C), xcl[k]? = some q → u_Kn U q.1 q.2.1 q.2.2 (E.1.1 k) (E.1.2 k)) ∧
  (∀ k : Nat, k < 14 → ArrOfT U (E.2.1 (101 + k)) (xak k) ∧ va_RA U (E.2.1 (101 + k)) (xak k)) ∧
  (∀ q ∈ xkn, U.vm.findClass q.2 = some (E.2.1 q.1)) ∧
  (∀ w, w ∈ lw_tbl → xwarm w → va_Nw w U) ∧
  (∀ q ∈ xnc, va_Nc q.1 q.2 U) ∧
  (∀ (i : Nat) (q : String × String × String), xst[i]? = some q → va_Z q.1 q.2.1 q.2.2 (xsv E.2.2.1 i) (xF E) U E.2.2.2) ∧
  (∀ q ∈ xsq, vx_Zq q.1 q.2.1 q.2.2 (xF E) U E.2.2.2) ∧
  (∀ (i : Nat) (q : String × Nat × String), xss[i]? = some q → vk_R q.1 q.2.1 q.2.2 (E.2.2.1 (10 + i)) U) ∧
  va_Mi "[Ljava/lang/Object;" (E.2.2.1 7) U ∧
  ((∀ C ∈ xao, va_AO C U) ∧ va_AA .float U ∧ ∀ q ∈ xfw, va_Fw q.1 q.2.1 q.2.2 U) ∧
  ((∀ q ∈ xsites, xLam U q.1 q.2.1 q.2.2.1 q.2.2.2.1 (E.2.1 q.2.2.2.2) (xlk E q.2.2.2.2)) ∧ ∀ t, t = 76 ∨ t = 77 → ∃ cell : Cell, E.2.2.2[E.2.2.1 t]? = some cell ∧ cell.cls = E.2.1 t ∧ cell.vm = .none) ∧
  (∀ i : Nat, i < 3 → va_OF "java/lang/Enum" "ordinal" "I" (.int (nI i)) (E.2.2.1 i) (xF E) U E.2.2.2)
theorem xK.moved {E : xEnv} {u U : State} (hW : u.WarmedH U.vm) (h : xK E u) : xK E U := by
  obtain ⟨h1, h2, h3, h4, h5, h6, h7, h8, h9, h10, h11, h12⟩ := h
  have hA := hW.alike
  refine ⟨fun k q hq => u_Kn_moved hA (h1 k q hq), fun k hk => ⟨arrOfT_moved hA (h2 k hk).1, (h2 k hk).2.moved hA⟩, fun q hq => ?_, fun w hw hx => (h4 w hw hx).moved hx hW, fun q hq => (h5 q hq).moved hA, fun i q hq => (h6 i q hq).moved hA, fun q hq => (h7 q hq).moved hA, fun i q hq => (h8 i q hq).warm hW, h9.moved hA, ⟨fun C hC => (h10.1 C hC).moved hA, h10.2.1.moved hA, fun q hq => (h10.2.2 q hq).moved ?_ hA⟩, ⟨fun q hq => (h11.1 q hq).moved hW, h11.2⟩, fun i hi => (h12 i hi).moved hA⟩
  · rw [hA.findClass]
    exact h3 q hq
  · simp only [xfw, List.mem_cons, List.not_mem_nil, or_false] at hq
    rcases hq with rfl | rfl <;> exact ⟨by decide, by decide⟩
/-! a method: name, code, locals, answer, handlers -/
def xws (M : xM) : List Cond := match M.2.2.2.2 with
  | [] => ws_ M.1 M.2.1 M.2.2.1 M.2.2.2.1
  | h :: t => wsW_ M.1 M.2.1 M.2.2.1 M.2.2.2.1 (h :: t)
theorem xws_all {M : xM} {w : Cond} (h : w ∈ lw_all) : w ∈ xws M := by
  obtain ⟨y, b, n, r, hh⟩ := M
  cases hh <;> exact List.mem_cons_of_mem _ h
/-- what holds all through a method's run -/
def xC (M : xM) (p : Program) (L : Launch) (s : State) (m : MethodId) (args : Array Value) (meth : Method) (c : Code) (E : xEnv) : Prop :=
  p.tables.exec = Jvm.exec ∧ c.code = M.2.1 ∧ meth.sig.returnType = M.2.2.2.1 ∧ c.maxLocals = M.2.2.1 ∧ s.vm.findClass M.1.cls = some m.cls ∧ (∀ w ∈ lw_all, w.before args s = true) ∧ meth.locks = false ∧ (meth.name = M.1.name ∧ s.methodNamed? M.1 = some m) ∧
  c.exceptionTable.toList = tableOf M.2.2.2.2 ∧ L.stackTraces = false ∧ xK E s ∧ E.2.2.2.size ≤ s.heap.size ∧ ∀ q : Nat, q < E.2.2.2.size → s.heap[q]? = E.2.2.2[q]?
def xQc (rs : Option Value ⊕ Nat) (g' : xG) : Array Value → State → Outcome → State → Prop := fun _ _ o t => ∃ v, rs = .inl v ∧ o = .returned v ∧ xR g' t.heap
def xXC (rs : Option Value ⊕ Nat) (g' : xG) : String → Addr → State → State → Prop := fun Ec q _ t => rs = .inr q ∧ xR g' t.heap ∧ Ec = xcn (xtag g' q) ∧ 0 < xtag g' q ∧ xtag g' q < 60 ∧ xown g' q ≠ 0
/-- the room of a method at depth d -/
def xloc (d : Nat) : Nat := 64 * d + 11000
def xMet (M : xM) (d : Nat) (as : List Value) (g : xG) (rs : Option Value ⊕ Nat) (g' : xG) : Prop := ∀ L : Launch, L.stackTraces = false →
  vx_Met L M.1 (xws M) { frames := d, cells := xsz g' - xsz g, slots := xsl g' - xsl g, locals := xloc d } (va_Pc as (fun U => xR g U.heap ∧ xK (xE g) U)) (xQc rs g') (xXC rs g') (xsz g' - xsz g) (xsl g' - xsl g) (xF (xE g))
def xMono (g g' : xG) : Prop := xE g' = xE g ∧ xsz g ≤ xsz g' ∧ xsl g ≤ xsl g'
theorem xMono.rf {g : xG} : xMono g g := ⟨rfl, Nat.le_refl _, Nat.le_refl _⟩
theorem xMono.tr {g g1 g2 : xG} (h : xMono g g1) (k : xMono g1 g2) : xMono g g2 := ⟨k.1.trans h.1, Nat.le_trans h.2.1 k.2.1, Nat.le_trans h.2.2 k.2.2⟩
/-- the state of a walk, hidden: machine, room, heap -/
def xSt (M : xM) (d : Nat) (l : List (Nat × Value)) (g g' : xG) (p : Program) (L : Launch) (R : Room) (s : State) (m : MethodId) (args : Array Value) (meth : Method) (c : Code) (z0 : Nat) (H : Heap) (locs : List Loc) (ls : Array Slot) : Prop :=
  xC M p L s m args meth c (xE g) ∧ s.heap.size ≤ xsz g ∧ z0 ≤ xsl g ∧ d ≤ R.frames ∧ xloc d ≤ R.locals ∧ xsz g' - s.heap.size ≤ R.cells ∧ xsl g' - z0 ≤ R.slots ∧ xR g H ∧ va_S (xF (xE g)) s.heap H locs ∧ lv_has ls M.2.2.1 l
def xReach (M : xM) (d pc : Nat) (l : List (Nat × Value)) (st : List Value) (g : xG) (rs : Option Value ⊕ Nat) (g' : xG) : Prop :=
  ∀ (p : Program) (L : Launch) (e : Env) (R : Room) (s : State) (m : MethodId) (args : Array Value) (below : List Frame) (meth : Method) (c : Code) (z0 : Nat) (H : Heap) (locs : List Loc) (ls : Array Slot),
    xSt M d l g g' p L R s m args meth c z0 H locs ls → W p L e R s m args below meth c H locs (xsz g - s.heap.size) (xsl g - z0) (vx_MQ below (xQc rs g') (xXC rs g') args s (xsz g' - s.heap.size) (xsl g' - z0) (xF (xE g))) (F0 m pc ls st)
/-- .. with q thrown -/
def xReachX (M : xM) (d pc : Nat) (l : List (Nat × Value)) (q : Nat) (g : xG) (rs : Option Value ⊕ Nat) (g' : xG) : Prop :=
  ∀ (p : Program) (L : Launch) (e : Env) (R : Room) (s : State) (m : MethodId) (args : Array Value) (below : List Frame) (meth : Method) (c : Code) (z0 : Nat) (H : Heap) (locs : List Loc) (ls : Array Slot) (rest : List Value),
    xSt M d l g g' p L R s m args meth c z0 H locs ls → vx_W p L e R s m args below meth c H locs (xsz g - s.heap.size) (xsl g - z0) (vx_MQ below (xQc rs g') (xXC rs g') args s (xsz g' - s.heap.size) (xsl g' - z0) (xF (xE g))) (F0 m pc ls rest) q
/-- THE JUDGEMENTS: from pc, with locals l, stack st, heap g, the method ends, with an answer and a heap in Q -/
def XW (M : xM) (d pc : Nat) (l : List (Nat × Value)) (st : List Value) (g : xG) (Q : Option Value ⊕ Nat → xG → Prop) : Prop := ∃ rs g', Q rs g' ∧ xMono g g' ∧ xReach M d pc l st g rs g'
def XX (M : xM) (d pc : Nat) (l : List (Nat × Value)) (q : Nat) (g : xG) (Q : Option Value ⊕ Nat → xG → Prop) : Prop := ∃ rs g', Q rs g' ∧ xMono g g' ∧ xReachX M d pc l q g rs g'
/-- a call of M ends, with an answer and a heap in P -/
def XM (M : xM) (d : Nat) (as : List Value) (g : xG) (P : Option Value ⊕ Nat → xG → Prop) : Prop := ∃ rs g', P rs g' ∧ xMono g g' ∧ xMet M d as g rs g'
theorem XM.mono {M : xM} {d : Nat} {as : List Value} {g : xG} {P P' : Option Value ⊕ Nat → xG → Prop} (h : XM M d as g P) (k : ∀ rs g', P rs g' → xMono g g' → P' rs g') : XM M d as g P' := by
  obtain ⟨rs, g', hP, hm, hr⟩ := h
  exact ⟨rs, g', k rs g' hP hm, hm, hr⟩
theorem XW.mono {M : xM} {d pc : Nat} {l : List (Nat × Value)} {st : List Value} {g : xG} {P P' : Option Value ⊕ Nat → xG → Prop} (h : XW M d pc l st g P) (k : ∀ rs g', P rs g' → xMono g g' → P' rs g') : XW M d pc l st g P' := by
  obtain ⟨rs, g', hP, hm, hr⟩ := h
  exact ⟨rs, g', k rs g' hP hm, hm, hr⟩
/-- from the body to the call -/
theorem xm_of {M : xM} {d : Nat} {as : List Value} {g : xG} {P : Option Value ⊕ Nat → xG → Prop} (hp : plainName M.1.cls = true) (hn : (lg_sl as).length ≤ M.2.2.1) (k : XW M d 0 (lv_args 0 as) [] g P) : XM M d as g P := by
  obtain ⟨rs, g', hP, hm, hr⟩ := k
  refine ⟨rs, g', hP, hm, fun L hL => ?_⟩
  obtain ⟨y, cc, n, ret, hh⟩ := M
  have body : ∀ (p : Program) (e : Env) (s : State) (m : MethodId) (args : Array Value) (below : List Frame) (meth : Method) (c : Code) (s₁ : State), BodyLoose p L y (headSpec (xws (y, cc, n, ret, hh)) { frames := d, cells := xsz g' - xsz g, slots := xsl g' - xsl g, locals := xloc d }) cc n ret e s m args below meth c s₁ → c.maxLocals = n → c.exceptionTable.toList = tableOf hh → va_Pc as (fun U => xR g U.heap ∧ xK (xE g) U) args s →
      W p L e (headSpec (xws (y, cc, n, ret, hh)) { frames := d, cells := xsz g' - xsz g, slots := xsl g' - xsl g, locals := xloc d }).room s m args below meth c s.heap [] 0 0 (vx_MQ below (xQc rs g') (xXC rs g') args s (xsz g' - xsz g) (xsl g' - xsl g) (xF (xE g))) (entryFrame m args n) := by
    intro p e s m args below meth c s₁ B hml htab hv
    obtain ⟨rfl, hR, hK⟩ := hv
    have hts := atoms_spec (ws := xws (y, cc, n, ret, hh)) B.pre
    have hl := lv_entry as (n := n) hn
    rw [lg_entry_eq]
    have h := hr p L e { frames := d, cells := xsz g' - xsz g, slots := xsl g' - xsl g, locals := xloc d } s m as.toArray below meth c (xsl g) s.heap [] _
      ⟨⟨B.exec, B.bytes, B.returns, hml, findClass_of_methodNamed B.named, fun w hw => hts w (xws_all hw), B.notSynchronized, ⟨(name_of_methodNamed B.named B.method).1, B.named⟩, htab, hL, hK, hR.2.1, hR.2.2.1⟩, Nat.le_of_eq hR.1, Nat.le_refl _, Nat.le_refl _, Nat.le_refl _, by rw [hR.1]; exact Nat.le_refl _, Nat.le_refl _, hR, va_S.rf, hl⟩
    rw [hR.1, Nat.sub_self, Nat.sub_self] at h
    exact h
  cases hh with
  | nil =>
    refine vx_ofW (cc := cc) (maxL := n) (ret := ret) (ws' := lw_all) hp rfl ?_
    intro p e s m args below meth c s₁ B hml ht hv
    exact body p e s m args below meth c s₁ B hml (by
      cases hq : c.exceptionTable.toList with
      | nil => rfl
      | cons a b => exact (ht a (by rw [hq]; exact List.mem_cons_self)).elim) hv
  | cons a b =>
    refine vx_ofWH (cc := cc) (maxL := n) (ret := ret) (hh := a :: b) (ws' := lw_all) hp rfl ?_
    intro p e s m args below meth c s₁ B hml hv
    exact body p e s m args below meth c s₁ B hml (vx_table (x := y) B (atoms_spec (ws := xws (y, cc, n, ret, a :: b)) B.pre _ List.mem_cons_self)) hv
/-- a walk's pure step -/
theorem xw_lift {M : xM} {d pc pc' : Nat} {l : List (Nat × Value)} {st st' : List Value} {g : xG} {Q : Option Value ⊕ Nat → xG → Prop}
    (h : ∀ (p : Program) (L : Launch) (e : Env) (R : Room) (s : State) (m : MethodId) (args : Array Value) (below : List Frame) (meth : Method) (c : Code) (H : Heap) (locs : List Loc) (cells slots : Nat) (Qf : State → Prop) (ls : Array Slot), p.tables.exec = Jvm.exec → c.code = M.2.1 → s.vm.findClass M.1.cls = some m.cls → (∀ w ∈ lw_all, w.before args s = true) → lv_has ls M.2.2.1 l →
      W p L e R s m args below meth c H locs cells slots Qf (F0 m pc' ls st') → W p L e R s m args below meth c H locs cells slots Qf (F0 m pc ls st))
    (k : XW M d pc' l st' g Q) : XW M d pc l st g Q := by
  obtain ⟨rs, g', hQ, hm, hr⟩ := k
  refine ⟨rs, g', hQ, hm, ?_⟩
  intro p L e R s m args below meth c z0 H locs ls S
  obtain ⟨C, h1, h2, h3, h4, h5, h6, hR, hS, hl⟩ := S
  exact h p L e R s m args below meth c H locs _ _ _ ls C.1 C.2.1 C.2.2.2.2.1 C.2.2.2.2.2.1 hl (hr p L e R s m args below meth c z0 H locs ls ⟨C, h1, h2, h3, h4, h5, h6, hR, hS, hl⟩)
/-- .. that changes the locals -/
theorem xw_liftL {M : xM} {d pc pc' : Nat} {l l' : List (Nat × Value)} {st st' : List Value} {g : xG} {Q : Option Value ⊕ Nat → xG → Prop}
    (h : ∀ (p : Program) (L : Launch) (e : Env) (R : Room) (s : State) (m : MethodId) (args : Array Value) (below : List Frame) (meth : Method) (c : Code) (H : Heap) (locs : List Loc) (cells slots : Nat) (Qf : State → Prop) (ls : Array Slot), p.tables.exec = Jvm.exec → c.code = M.2.1 → lv_has ls M.2.2.1 l →
      (∀ ls', lv_has ls' M.2.2.1 l' → W p L e R s m args below meth c H locs cells slots Qf (F0 m pc' ls' st')) → W p L e R s m args below meth c H locs cells slots Qf (F0 m pc ls st))
    (k : XW M d pc' l' st' g Q) : XW M d pc l st g Q := by
  obtain ⟨rs, g', hQ, hm, hr⟩ := k
  refine ⟨rs, g', hQ, hm, ?_⟩
  intro p L e R s m args below meth c z0 H locs ls S
  obtain ⟨C, h1, h2, h3, h4, h5, h6, hR, hS, hl⟩ := S
  exact h p L e R s m args below meth c H locs _ _ _ ls C.1 C.2.1 hl (fun ls' hl' => hr p L e R s m args below meth c z0 H locs ls' ⟨C, h1, h2, h3, h4, h5, h6, hR, hS, hl'⟩)
theorem xw_pick {M : xM} {d pc : Nat} {l l' : List (Nat × Value)} {st : List Value} {g : xG} {Q : Option Value ⊕ Nat → xG → Prop} (ks : List Nat) (h : lv_pick l ks = l') (k : XW M d pc l' st g Q) : XW M d pc l st g Q :=
  xw_liftL (fun _ _ _ _ _ _ _ _ _ _ _ _ _ _ _ ls _ _ hl kk => kk ls (lv_sub hl ks h)) k
