/-! CORE 22: an array's store refused -/
set_option maxRecDepth 100000
set_option maxHeartbeats 1000000 in
theorem vz_vmAt {p : Program} {l : Launch} {e : Env} {R : Room} {s : State} {m₀ : MethodId} {args : Array Value} {below : List Frame} {meth : Method} {c : Code} {W : State} {locs : List Loc} {cells slots : Nat}
    (X : Stand p l e R s m₀ args below meth c W locs cells slots) (hexec : p.tables.exec = Jvm.exec) (htr : e.platform.stackTraces = false) {cls : String} {names : List String} {text : String}
    (hcls : Bundle.fit cls = true) (hnames : ∀ n ∈ names, Bundle.fit n = true) (hsoe : (cls == "java/lang/StackOverflowError") = false) (hoom : (cls == "java/lang/OutOfMemoryError") = false)
    (h : ∀ a ∈ Bundle.messageArmAtoms cls names, a.before args s = true)
    (hlocs : ∀ x ∈ locs, ∀ cell, s.heap[x.base]? = some cell → cell.vm.isStatics = false)
    (htext : (text == notModelled) = false) (hlimit : ¬ (stringBytes (stringToUtf16 text)).size > e.platform.arrayLengthLimit) (hheap : ¬ (stringBytes (stringToUtf16 text)).size * componentBytes .byte > e.platform.maxHeapBytes)
    {g : JFrame} (hg : g.method = m₀) (hsize : g.locals.size = c.maxLocals)
    (hRframes : names.length + 4 < R.frames) (hRlocals : 2 * g.monitorRoom + (g.stack.map fun v => v.category).sum + 10240 ≤ R.locals) (hshort : 13 * names.length + 55 ≤ 10240)
    (hRcells : cells + 3 ≤ R.cells) (hRslots : slots + ((stringBytes (stringToUtf16 text)).size + 4 + 6) ≤ R.slots) (hlocks : meth.locks = false) :
    ∃ (S : State) (q : Addr) (ce : Cell), (∀ target, Steps p.tables e below ((S.setTop g).pushFrame (.throwing q)) target → Steps p.tables e below ((W.setTop g).pushFrame (.throwNew cls (some text) none)) target) ∧
      Stand p l e R s m₀ args below meth c S locs (cells + 3) (slots + ((stringBytes (stringToUtf16 text)).size + 4 + 6)) ∧ S.heap[q]? = some ce ∧ s.vm.findClass cls = some ce.cls ∧ ce.vm = .none ∧ q = W.heap.size + 2 := by
  have howns : e.platform.frameOwnsMonitors = true := by rw [X.admits.platform]
  have hfin : e.platform.finalization = false := by rw [X.admits.platform]
  have hpl : e.platform.magicAccessors = ({} : Platform).magicAccessors := by rw [X.admits.platform]
  have a : ∀ x, x ∈ Bundle.messageArmAtoms cls names → x.holds args s none s [] = true := fun x hx => h x hx
  obtain ⟨T, Z0, L, -, Y⟩ := ThrowableC.of_atoms (args := args) howns hfin hpl (fun x hx => h x (by simp [Bundle.messageArmAtoms, hx]))
  obtain ⟨Z, M, LZ, LM, hnZ⟩ := Init0T.ofS_atoms (args := args) hpl L Y (fun x hx => h x (by simp [Bundle.messageArmAtoms, hx]))
  obtain ⟨P1, Ps, hlen, L1, hL, hP1m, hlink1, hlink⟩ := Bundle.chainS (args := args) hpl hnZ names cls hcls hnames (fun x hx => h x (by simp [Bundle.messageArmAtoms, hx]))
  obtain ⟨Zs, LZs, hn4, hfitv, hfitc⟩ := StringT.of_atoms (args := args) (fun x hx => h x (by simp [Bundle.messageArmAtoms, hx]))
  have hfound : s.vm.findClass cls = some P1.m.cls := findClass_of_methodNamed hP1m
  obtain ⟨c1, kX, hc1, hk, hord, -, -, hn6⟩ := Cond.instantiable_spec (a (.instantiable cls 6) (by simp [Bundle.messageArmAtoms]))
  cases Option.some.inj (hc1.symm.trans hfound)
  have hinit := Cond.initialized_spec hfound hk (a (.initialized cls) (by simp [Bundle.messageArmAtoms]))
  have hctor : kX.findMethod "<init>" "(Ljava/lang/String;)V" = some P1.m.idx := findMethod_of_methodNamed hP1m hk
  have hsel0 : selectMethod e.platform s.vm P1.m.cls T.fill0 = .method T.fill0 := by
    obtain ⟨c2, r2, m2, q1, q2, q3, q4, -⟩ := Cond.selects_spec (a (.selects cls Bundle.tFill0 Bundle.tFill0) (by simp [Bundle.messageArmAtoms]))
    cases Option.some.inj (q1.symm.trans hfound)
    cases Option.some.inj (q2.symm.trans (State.methodFound?_of_named Y.fill0 (by decide)))
    cases Option.some.inj (q3.symm.trans Y.fill0)
    rw [Launch.admits_selectMethod X.admits]; exact q4
  have hselF : selectMethod e.platform s.vm P1.m.cls T.fill = .method T.fill := by
    obtain ⟨c2, r2, m2, q1, q2, q3, q4, -⟩ := Cond.selects_spec (a (.selects cls Bundle.tFill Bundle.tFill) (by simp [Bundle.messageArmAtoms]))
    cases Option.some.inj (q1.symm.trans hfound)
    cases Option.some.inj (q2.symm.trans (State.methodFound?_of_named Y.fill (by decide)))
    cases Option.some.inj (q3.symm.trans Y.fill)
    rw [Launch.admits_selectMethod X.admits]; exact q4
  obtain ⟨cellS0, hcS0, hiss⟩ := Y.statics
  obtain ⟨u0, hu0⟩ := Cond.staticRefV Y.unassigned L.unassignedStatic L.statics hcS0 hiss (a (.isRef (.static Bundle.tN "UNASSIGNED_STACK" Bundle.steD)) (by simp [Bundle.messageArmAtoms]))
  obtain ⟨sen, hsen⟩ := Cond.staticRefV Y.sentinel L.sentinelStatic L.statics hcS0 hiss (a (.isRef (.static Bundle.tN "SUPPRESSED_SENTINEL" Bundle.listD)) (by simp [Bundle.messageArmAtoms]))
  obtain ⟨ci198, i198, fB, hk198, hg198, ha198, hsB, -, hnB, htB, hffB⟩ := Cond.ownField (t := .object "java/lang/Object") Y.found L.cls (by decide +kernel) (a (.fieldLink Bundle.tN 198 Bundle.tN "backtrace" "Ljava/lang/Object;") (by simp [Bundle.messageArmAtoms])) (a (.lays Bundle.tN Bundle.tN "backtrace" "Ljava/lang/Object;") (by simp [Bundle.messageArmAtoms])) e.platform hpl
  obtain ⟨cellS, hcS', heS, -, hkeep⟩ := X.same.2.2.2.2.2 T.aS cellS0 hcS0
  have hcellS : W.heap[T.aS]? = some cellS := hcS'
  have hout' : ∀ i, (⟨T.aS, i⟩ : Loc) ∉ locs := fun i hmem => by
    have := hlocs _ hmem cellS0 hcS0
    rw [hiss] at this; cases this
  have hknownS : cellS.vm ≠ .unknown := by
    rw [heS]; intro hu
    rw [show cellS0.vm = .unknown from hu] at hiss
    cases hiss
  have hvU : cellS.slots[T.fUnassigned.slot]? = some u0.v := by rw [hkeep _ (hout' _)]; exact hu0
  have hvSen : cellS.slots[T.fSentinel.slot]? = some sen.v := by rw [hkeep _ (hout' _)]; exact hsen
  obtain ⟨iM, hffM⟩ := Y.msg
  obtain ⟨tyC, dC, hdC, hdnC⟩ := Cond.laysAt hfound hk Y.cause (a (.lays cls Bundle.tN "cause" "Ljava/lang/Throwable;") (by simp [Bundle.messageArmAtoms]))
  obtain ⟨tyS, dS, hdS, hdnS⟩ := Cond.laysAt hfound hk Y.stack (a (.lays cls Bundle.tN "stackTrace" Bundle.steD) (by simp [Bundle.messageArmAtoms]))
  obtain ⟨tyP, dP, hdP, hdnP⟩ := Cond.laysAt hfound hk Y.supp (a (.lays cls Bundle.tN "suppressedExceptions" Bundle.listD) (by simp [Bundle.messageArmAtoms]))
  obtain ⟨tyM, dM, hdM, hdnM⟩ := Cond.laysAt hfound hk hffM (a (.lays cls Bundle.tN "detailMessage" "Ljava/lang/String;") (by simp [Bundle.messageArmAtoms]))
  obtain ⟨tyB, dB, hdB, hdnB⟩ := Cond.laysAt hfound hk hffB (a (.lays cls Bundle.tN "backtrace" "Ljava/lang/Object;") (by simp [Bundle.messageArmAtoms]))
  have bC := Cond.laysApart hdB hdC hdnB hdnC (by rw [hnB, Y.causeName]; decide)
  have bS := Cond.laysApart hdB hdS hdnB hdnS (by rw [hnB, Y.stackName]; decide)
  have bP := Cond.laysApart hdB hdP hdnB hdnP (by rw [hnB, Y.suppName]; decide)
  have hbk : ((preparedCellV T.toThrowableT (freshCell P1.m.cls kX) (W.heap.size + 2) u0 sen).withEntry W.cur).slots[fB.slot]? = some .null := by
    have := fresh_default (c := P1.m.cls) tyB
    rw [htB] at this
    simpa [preparedCellV, Cell.setSlot, Cell.withEntry, Array.getElem?_setIfInBounds, bC, bS, bP, bC.symm, bS.symm, bP.symm, defaultValue] using this
  have tkC := Takes.of_laid (v := .ref (W.heap.size + 2)) hk hord tyC (by rw [Y.causeType]; rfl)
  have tkS := Takes.of_laid (v := u0.v) hk hord tyS (by rw [Y.stackType]; exact fits_refV_array _ u0)
  have tkP := Takes.of_laid (v := sen.v) hk hord tyP (by rw [Y.suppType]; exact fits_refV_object _ sen)
  have tkM := Takes.of_laid (v := .ref (W.heap.size + 1)) hk hord tyM (by rw [Y.msgType]; rfl)
  have hskip : SkipFacts T e.platform s (fun u => u) u0 ((preparedCellV T.toThrowableT (freshCell P1.m.cls kX) (W.heap.size + 2) u0 sen).withEntry W.cur) := ⟨{ ci198 := ci198, i198 := i198, fBack := fB }, ⟨hk198, hg198, ha198, hsB⟩, hbk, fun _ _ => rfl⟩
  have h0 : At W g.method c below := by rw [hg]; exact X.here
  obtain ⟨hbeyond, hfreeW⟩ := X.vmMayThrow hsize (.throwNew cls (some text) none) (fun f hf => by cases hf) rfl hRlocals
  have hfr' : W.frames.length + Ps.length + 4 < (e.platform.stackLimits W.me).1 := by have := X.framesAbove hRframes; omega
  have hwd' : (stackUse (.java g :: W.frames.tail)).2 + 13 * Ps.length + 55 ≤ (e.platform.stackLimits W.me).2 := by have := X.stackAbove hsize (K := 13 * Ps.length + 55) (by omega); omega
  have hslots : W.slotsUsed + (stringBytes (stringToUtf16 text)).size + Zs.kS.instanceTypes.size + kX.instanceTypes.size ≤ e.platform.maxSlots := by
    have := X.slotsAbove hRslots
    rw [hn4, hn6]
    omega
  obtain ⟨vm', hW', st⟩ := Steps.vmThrowsMessageColdByV p (s₀ := s) (S := W) (g := g) h0 hexec T L Z LZ M LM X.warmed (t := W.cur) rfl Zs LZs P1 L1 Ps hL hlink1 hlink hsoe hoom hfound hk hinit hord hctor
    (Launch.admits_hotImplicitExceptions X.admits) hbeyond hfreeW htext hlimit hheap (X.cellsAbove hRcells) hslots (hfitv _) (hfitc _)
    (Nn := fun u => u) heapOnly_id (fun _ _ => rfl) (fun _ => rfl) (fun u x y => setCell_twice _ _ _ _) (fun _ => Nat.le_refl _) (cN := ((preparedCellV T.toThrowableT (freshCell P1.m.cls kX) (W.heap.size + 2) u0 sen).withEntry W.cur))
    hsel0 hcellS hknownS hvU tkS (fun _ hu => hu) (fun _ hu => hu) rfl rfl rfl (by simp [preparedCellV, Cell.setSlot, Cell.withEntry]) hskip (fun _ _ hA hW _ hroom _ hrest => L.nativeOff p htr hA hW hroom hrest) hselF hvSen tkC tkP tkM Y.objLocals rfl hfr' hwd'
  rw [plainBareV_eq T.toThrowableT (W.heap.size + 2) u0 sen (.ref (W.heap.size + 1)) W.cur rfl rfl] at st
  obtain ⟨-, -, w3, w4, -, -, -⟩ := withThrown_facts e.platform W Zs text P1.m.cls kX
  have X3 := ((X.pushed (bytesOf Zs.cB (stringToUtf16 text))).pushed (stringAt Zs.cS Zs.kS Zs.fv Zs.fc (stringToUtf16 text) W.heap.size)).pushed (freshCell P1.m.cls kX)
  rw [← withString_eq] at X3
  have X4 := X3.noted hW'
  have ha : (W.heap.size + 2) < ((withThrown W Zs text P1.m.cls kX).setVm vm').heap.size := by show _ < (withThrown W Zs text P1.m.cls kX).heap.size; rw [w3]; omega
  have hcell : ((withThrown W Zs text P1.m.cls kX).setVm vm').heap[(W.heap.size + 2)]? = some (freshCell P1.m.cls kX) := w4
  have X5 := ((((X4.stored hcell T.fCause.slot (.ref (W.heap.size + 2))).storedAgain ha T.fStack.slot u0.v).storedAgain ha T.fSupp.slot sen.v).storedAgain ha T.fStack.slot u0.v).storedAgain ha T.fMsg.slot (.ref (W.heap.size + 1))
  obtain ⟨g₁, hfrM⟩ := X5.frames_eq
  have hU : ((((withThrown W Zs text P1.m.cls kX).setVm vm').setCell (W.heap.size + 2) (plainBareV T.toThrowableT (freshCell P1.m.cls kX) (W.heap.size + 2) u0 sen (.ref (W.heap.size + 1)))).setTop g).pushFrame (.throwing (W.heap.size + 2)) = (((withThrown W Zs text P1.m.cls kX).setVm vm').setCell (W.heap.size + 2) (plainBareV T.toThrowableT (freshCell P1.m.cls kX) (W.heap.size + 2) u0 sen (.ref (W.heap.size + 1)))).setFrames (.throwing (W.heap.size + 2) :: .java g :: below) := by
    rw [State.pushFrame, State.frames_setTop _ hfrM, State.setTop_of_frames _ hfrM, State.setFrames_setFrames]
  have b1 : (bytesOf Zs.cB (stringToUtf16 text)).slots.size = (stringBytes (stringToUtf16 text)).size := by
    rw [(Cell.writeAll_facts _ _).2.2]; simp [bytes0]
  have b2 : (stringAt Zs.cS Zs.kS Zs.fv Zs.fc (stringToUtf16 text) W.heap.size).slots.size = 4 := by simp [string0, Cell.setSlot, hn4]
  have b3 : (freshCell P1.m.cls kX).slots.size = 6 := by simp [hn6]
  rw [b1, b2, b3] at X5
  have e9 : slots + (stringBytes (stringToUtf16 text)).size + 4 + 6 = slots + ((stringBytes (stringToUtf16 text)).size + 4 + 6) := by omega
  rw [e9] at X5
  simp only [List.append_assoc, List.cons_append, List.nil_append] at X5
  refine ⟨((withThrown W Zs text P1.m.cls kX).setVm vm').setCell (W.heap.size + 2) (plainBareV T.toThrowableT (freshCell P1.m.cls kX) (W.heap.size + 2) u0 sen (.ref (W.heap.size + 1))), W.heap.size + 2, _, fun target ht => st _ (by rw [X.tail, ← hU]; exact ht),
    X5.forget (fun y hy => ?_), heapAt_setCell_self _ ha, hfound, rfl, rfl⟩
  simp only [List.mem_cons, List.not_mem_nil, or_false] at hy
  have hge : s.heap.size ≤ W.heap.size := X.same.2.1
  rcases hy with rfl | rfl | rfl | rfl | rfl <;> exact Nat.le_trans hge (Nat.le_add_right _ 2)
section Z22
variable {p : Program} {l : Launch} {e : Env} {R : Room} {s : State} {m : MethodId} {args : Array Value} {below : List Frame} {meth : Method} {c : Code} {H : Heap} {locs : List Loc} {cells slots : Nat}
theorem vz_vm {pc : Nat} {ls : Array Slot} {rest : List Value} {Q : State → Prop} (hexec : p.tables.exec = Jvm.exec) (hl : l.stackTraces = false) {cls text : String} {names : List String} {nb : Nat} {A : Nat → Prop}
    (hcls : Bundle.fit cls = true) (hnames : ∀ n ∈ names, Bundle.fit n = true) (hsoe : (cls == "java/lang/StackOverflowError") = false) (hoom : (cls == "java/lang/OutOfMemoryError") = false)
    (hat : ∀ w ∈ vx_atM cls names, w.before args s = true) (hgood : ∀ w ∈ vx_atM cls names, vx_ot w = true)
    (hU : vx_Zq Bundle.tN "UNASSIGNED_STACK" Bundle.steD A s s.heap) (hN : vx_Zq Bundle.tN "SUPPRESSED_SENTINEL" Bundle.listD A s s.heap) (hS : va_S A s.heap H locs) (hsize : ls.size = c.maxLocals)
    (htext : (text == notModelled) = false) (hnb : (stringBytes (stringToUtf16 text)).size ≤ nb) (hnb1 : nb ≤ 1000)
    (hRframes : names.length + 4 < R.frames) (hRlocals : (rest.map fun v => v.category).sum + 10240 ≤ R.locals) (hshort : 13 * names.length + 55 ≤ 10240) (hRcells : cells + 3 ≤ R.cells) (hRslots : slots + (nb + 10) ≤ R.slots) (hlocks : meth.locks = false)
    (k : ∀ (H1 : Heap) (q9 : Addr) (ce : Cell), H1.size = H.size + 3 → q9 = H.size + 2 → H.size ≤ H1.size → (∀ q : Nat, q < H.size → H1[q]? = H[q]?) → va_S A s.heap H1 locs → H1[q9]? = some ce → ce.vm = .none → s.vm.findClass cls = some ce.cls → vx_W p l e R s m args below meth c H1 locs (cells + 3) (slots + (nb + 10)) Q (F0 m pc ls rest) q9) :
    vx_Note p l e R s m args below meth c H locs cells slots Q (F0 m pc ls rest) cls text := by
  intro T hT X
  have htr : e.platform.stackTraces = false := (show e.platform.stackTraces = l.stackTraces by rw [X.admits.platform]).trans hl
  have Y := vx_rebase X (R' := { frames := R.frames, locals := R.locals, cells := 3, slots := nb + 10 }) (Nat.le_refl _) (Nat.le_refl _) hRcells hRslots
  have hhp : ((T.setVm s.vm).setFrames (.invoking m args :: below)).heap = H := hT
  have hW0 : s.WarmedH ((T.setVm s.vm).setFrames (.invoking m args :: below)).vm := State.WarmedH.refl s
  have hat' : ∀ w ∈ vx_atM cls names, w.before args ((T.setVm s.vm).setFrames (.invoking m args :: below)) = true := fun w hw => vx_ot_at hW0 rfl (hgood w hw) (hat w hw)
  have hU' : vx_Zq Bundle.tN "UNASSIGNED_STACK" Bundle.steD A ((T.setVm s.vm).setFrames (.invoking m args :: below)) ((T.setVm s.vm).setFrames (.invoking m args :: below)).heap := by rw [hhp]; exact vx_Zq.moved hW0.alike (hU.kept hS.2.1)
  have hN' : vx_Zq Bundle.tN "SUPPRESSED_SENTINEL" Bundle.listD A ((T.setVm s.vm).setFrames (.invoking m args :: below)) ((T.setVm s.vm).setFrames (.invoking m args :: below)).heap := by rw [hhp]; exact vx_Zq.moved hW0.alike (hN.kept hS.2.1)
  obtain ⟨S, q, ce, st, Z, hce, hcl', hv, hq9⟩ := vz_vmAt Y hexec htr (cls := cls) (names := names) (text := text) hcls hnames hsoe hoom (vx_own hat' (vx_isRefq hU'.1) (vx_isRefq hN'.1) hU'.2.word hN'.2.word) (fun x hx => nomatch hx) htext
    (by rw [Launch.admits_arrayLengthLimit X.admits]; omega) (by rw [Launch.admits_maxHeapBytes X.admits]; simp only [componentBytes]; omega)
    (g := F0 m pc ls rest) rfl hsize hRframes (by show 2 * 0 + (rest.map fun v => v.category).sum + 10240 ≤ R.locals; omega) hshort (by show 0 + 3 ≤ 3; omega) (by show 0 + (_ + 4 + 6) ≤ nb + 10; omega) hlocks
  obtain ⟨f1, f2⟩ := vx_frame Z.same
  have f1' : H.size ≤ S.heap.size := by rw [← hT]; exact f1
  have f2' : ∀ q : Nat, q < H.size → S.heap[q]? = H[q]? := fun q hq => by
    rw [← hT]
    exact f2 q (by rw [← hT] at hq; exact hq) (fun z hz => nomatch hz)
  have hsz : S.heap.size = H.size + 3 := by
    have a1 : S.heap.size ≤ T.heap.size + (0 + 3) := Z.same.2.2.1
    have a2 := (Array.getElem?_eq_some_iff.mp hce).1
    rw [hq9] at a2
    have a3 : T.heap.size + 2 < S.heap.size := a2
    rw [hT] at a1 a3
    omega
  have X5 := vx_back9 X Y Z
  have X6 : Stand p l e R s m args below meth c S locs (cells + 3) (slots + (nb + 10)) := { X5 with same := X5.same.mono (by omega) (by omega) }
  obtain ⟨t, a1, b1⟩ := k S.heap q ce hsz (by rw [hq9]; exact congrArg (fun z : Heap => z.size + 2) hT) f1' f2' ⟨Nat.le_trans hS.1 f1', fun q h1 h2 => (f2' q (Nat.lt_of_lt_of_le h1 hS.1)).trans (hS.2.1 q h1 h2), hS.2.2⟩ hce hv hcl' S rfl X6
  exact ⟨t, st t a1, b1⟩
theorem vz_shown {vm : Vm} {C : String} {c : ClassId} {k : Class} (h : vm.findClass C = some c) (hk : vm.classes[c]? = some k) : k.shown = dotted C := by
  obtain ⟨hlt, hp, _⟩ := Array.findIdx?_eq_some_iff_getElem.mp h
  have e : k = vm.classes[c] := by
    rw [Array.getElem?_eq_getElem hlt] at hk
    exact (Option.some.inj hk).symm
  rw [← e] at hp
  simp only [Bool.and_eq_true, beq_iff_eq] at hp
  have h1 : k.name = C := hp.1.1.1
  have h2 : k.hidden = none := by
    have := hp
    simp_all
  unfold Class.shown
  rw [h2, h1]
theorem vz_refused {T : State} (X : Stand p l e R s m args below meth c T locs cells slots) (hexec : p.tables.exec = Jvm.exec)
    {a v : Addr} {cell cv : Cell} {j : Int32} {k kcomp : Class} {comp : ClassId} {t : FieldType} {C : String}
    (hcell : T.heap[a]? = some cell) (hobj : ∀ q, cell.vm ≠ .statics q) (hknown : cell.vm ≠ .unknown)
    (hk : s.vm.classes[cell.cls]? = some k) (hkind : k.kind = .array comp t) (hkcomp : s.vm.classes[comp]? = some kcomp)
    (hin : ¬ j < 0 ∧ j.toNatClampNeg < cell.slots.size)
    (hv : T.heap[v]? = some cv) (hvobj : ∀ q, cv.vm ≠ .statics q) (hC : s.vm.findClass C = some cv.cls) (hinst : s.vm.assignable cv.cls comp = false)
    {g : JFrame} (hg : g.method = m) {rest : List Value} (hstack : g.stack = .ref v :: .int j :: .ref a :: rest) (hdg : decode c.code g.pc = .ok (.aastore, 1)) :
    ∀ target, Steps p.tables e below ((T.setTop { g with stack := rest }).pushFrame (.throwNew "java/lang/ArrayStoreException" (some (dotted C)) none)) target → Steps p.tables e below (T.setTop g) target := by
  intro target hrest
  have hal : s.vm.Alike T.vm := X.warmed.alike
  obtain ⟨k₁, hk₁, hek⟩ := hal.2.2 _ _ hk
  have hkind₁ : k₁.kind = .array comp t := by rw [hek]; exact hkind
  obtain ⟨kcomp₁, hkcomp₁, -⟩ := hal.2.2 _ _ hkcomp
  obtain ⟨kv, hkv, -⟩ := Vm.findClass_spec hC
  obtain ⟨kv₁, hkv₁, hek2⟩ := hal.2.2 _ _ hkv
  have hinst₁ : T.vm.assignable cv.cls comp = false := by rw [hal.assignable]; exact hinst
  have hsh : kv₁.shown = dotted C := by
    rw [hek2]
    change kv.shown = dotted C
    exact vz_shown hC hkv
  have harr : T.isArray cell := ⟨hobj, k₁, hk₁, comp, t, hkind₁⟩
  have hlt := hin.2
  have hi := hin.1
  subst hg
  jvm_step X.here [hexec, hdg, aastore.sem, hstack, hcell, hobj, hknown, hk₁, hkind₁, hi, hlt, Nat.not_le.mpr hlt, harr, hv, hvobj, hkv₁, hkcomp₁, hinst₁, hsh]
  exact hrest
end Z22
theorem xt_ASE : ∀ w ∈ vx_atM "java/lang/ArrayStoreException" ["java/lang/RuntimeException", "java/lang/Exception"], w ∈ lw_tbl ∧ (goodWord w = true ∨ xwarm w) := xt_in _ [97, 195, 204, 214, 217, 219, 196, 197, 149, 150, 198, 203, 215, 456, 185, 457, 187, 458, 189, 199, 201, 191, 452, 453, 455, 191, 1727, 1728, 1729, 446, 177, 446, 447, 448, 449, 179, 449, 450, 451, 452, 181, 103, 404, 252, 482, 484, 483, 485, 136, 1726, 1737, 1738, 208, 1732, 1733, 1735, 1731, 454, 193, 1730] rfl (by decide +kernel)
section X22
variable {M : xM} {d pc : Nat} {l : List (Nat × Value)} {rest : List Value} {g : xG} {Q : Option Value ⊕ Nat → xG → Prop}
/-- the throwable that the machine makes, its text before it -/
def xAse (g : xG) : xG := xNew (xNew (xNew g (xBlank 0 0 0) 40) (xBlank 0 0 0) 4) (xBlank 27 9 0) 6
theorem xAse_tag : xtag (xAse g) (xsz g + 2) = 27 := by
  show (xc (xNew _ _ 6) (xsz (xNew (xNew g (xBlank 0 0 0) 40) (xBlank 0 0 0) 4))).1 = 27
  rw [xc_new]
  rfl
theorem xAse_own : xown (xAse g) (xsz g + 2) = 9 := by
  show (xc (xNew _ _ 6) (xsz (xNew (xNew g (xBlank 0 0 0) 40) (xBlank 0 0 0) 4))).2.1 = 9
  rw [xc_new]
  rfl
theorem xAse.fr {O : Nat → Prop} {n : Nat} {g0 : xG} (h : xFr O n g0 g) : xFr O (n + 41 + 5 + 7) g0 (xAse g) := ((h.nw (k := 40)).nw (k := 4)).nw (k := 6)
theorem xAse_c {b : Nat} (hb : b < xsz g) : xc (xAse g) b = xc g b := by
  unfold xAse
  rw [xc_newN (show b ≠ xsz g + 1 + 1 from by omega), xc_newN (show b ≠ xsz g + 1 from by omega), xc_newN (by omega)]
/-- a store that's refused -/
theorem xw_aastX {a b k q : Nat} {i : Int32} {C : String} (hd : decode M.2.1 pc = .ok (.aastore, 1)) (ht : xtag g a = 101 + q) (hq : q < 14) (hq7 : 7 ≤ q) (hak : xak q = .object C) (hi : i = nI k) (hk : k < xlen g a) (hb : xcls (xtag g b) = true) (hca : (xnm (xtag g b), C) ∈ xnc) (htx : (dotted (xnm (xtag g b)) == notModelled) = false) (hnb : (stringBytes (stringToUtf16 (dotted (xnm (xtag g b))))).size ≤ 40) (hr8 : (rest.map fun v => v.category).sum ≤ 8)
    (kk : XX M (d + 7) pc l (xsz g + 2) (xAse g) Q) : XW M (d + 7) pc l (.ref b :: .int i :: .ref a :: rest) g Q := by
  obtain ⟨rs, g', hQ, hm, hr⟩ := kk
  have hm0 : xMono g (xAse g) := (xAse.fr (xFr.rf (O := oNo) (n := 0))).mono
  refine ⟨rs, g', hQ, hm0.tr hm, ?_⟩
  intro p L e R s m args below meth c z0 H locs ls S
  obtain ⟨Cx, h1, h2, h3, h4, h5, h6, hR, hS, hl⟩ := S
  have Cx0 := Cx
  obtain ⟨hx, hb8, hr9, hml, hown, hts, hlocks, hname, htab, hL, hK, hbase, hbq⟩ := Cx
  have e5 : xsz (xAse g) = xsz g + 3 := rfl
  have e6 : xsl (xAse g) = xsl g + 50 := rfl
  have m5 := hm.2.1
  have m6 := hm.2.2
  rw [e5] at m5
  rw [e6] at m6
  obtain ⟨cell, q1, q2, q3, q4, q5, qA, z1, z2, z3, z4⟩ := x_arr (q := q) hq hK hR ht
  obtain ⟨y1, y2⟩ := x_idx hi hk z2
  obtain ⟨cv, v1, v2, v3⟩ := x_any hK hR hb
  have hRA := (hK.2.1 q hq).2
  rw [hak] at hRA
  obtain ⟨kA, comp, f1, f2, f3, f4⟩ := hRA
  obtain ⟨c0, t0, w1, w2, w3⟩ := hK.2.2.2.2.1 _ hca
  cases v3.symm.trans w1
  cases f3.symm.trans w2
  obtain ⟨kT, hkT, -⟩ := Vm.findClass_spec f3
  have hZ : ∀ q ∈ xsq, vx_Zq q.1 q.2.1 q.2.2 (xF (xE g)) s s.heap := fun q hq => (hK.2.2.2.2.2.2.1 q hq).kept (fun a ha _ => hbq a ha)
  have note : vx_Note p L e R s m args below meth c H locs (xsz g - s.heap.size) (xsl g - z0) (vx_MQ below (xQc rs g') (xXC rs g') args s (xsz g' - s.heap.size) (xsl g' - z0) (xF (xE g))) (F0 m pc ls rest) "java/lang/ArrayStoreException" (dotted (xnm (xtag g b))) := by
    refine vz_vm (nb := 40) (names := ["java/lang/RuntimeException", "java/lang/Exception"]) (A := xF (xE g)) hx hL (by decide +kernel) (by decide +kernel) (by decide +kernel) (by decide +kernel) (xt_use xt_ASE hts hK) (fun w hw => List.all_eq_true.mp (show (vx_atM "java/lang/ArrayStoreException" ["java/lang/RuntimeException", "java/lang/Exception"]).all vx_ot = true by decide +kernel) w hw) (hZ _ (List.mem_cons_self)) (hZ _ (List.mem_cons_of_mem _ List.mem_cons_self)) hS (by rw [hml]; exact hl.1) htx hnb (by omega) (by show 2 + 4 < R.frames; omega) (by unfold xloc at h4; omega) (by show 13 * 2 + 55 ≤ 10240; omega) (by omega) (by omega) hlocks (fun H1 q9 ce k1 k2 k3 k4 k5 k6 k7 k8 => ?_)
    have hRn : xR (xAse g) H1 := by
      refine ⟨by rw [k1, hR.1]; rfl, Nat.le_trans hR.2.1 k3, fun q hq => by rw [k4 q (Nat.lt_of_lt_of_le hq hR.2.1)]; exact hR.2.2.1 q hq, fun y => ?_⟩
      by_cases hy : y < xsz g
      · rw [xAse_c hy]
        rcases hR.2.2.2 y with h0 | ⟨cell, q1, q2⟩
        · exact Or.inl h0
        · exact Or.inr ⟨cell, by rw [k4 y (by rw [hR.1]; exact hy)]; exact q1, q2⟩
      · by_cases hy2 : y = xsz g + 2
        · subst hy2
          have ec : xc (xAse g) (xsz g + 2) = xBlank 27 9 0 := xc_new
          rw [ec]
          obtain ⟨hS1, hfc, kC, hkC, hkind⟩ := hK.1 26 _ (show xcl[26]? = some (_, _, _) from rfl)
          refine Or.inr ⟨ce, by rw [← hR.1, ← k2]; exact k6, by rw [k7]; exact fun h => (by cases h), by rw [k7]; rfl, fun _ => ⟨k7, by have := hR.2.1; rw [hR.1] at this; show (xE g).2.2.2.size ≤ _; omega⟩, ?_, fun _ => ⟨Nat.zero_le _, ?_⟩, fun h => ?_, fun j hj => absurd hj (Nat.not_lt_zero j)⟩
          · have e9 : xcid (xE (xAse g)) 27 = (xE g).1.1 26 := rfl
            refine Eq.trans ?_ e9.symm
            exact Option.some.inj (k8.symm.trans hfc)
          · show xmin 27 ≤ 0
            decide
          · have h27 : (100 : Nat) ≤ 27 := h
            omega
        · left
          by_cases hy3 : y = xsz g + 1
          · subst hy3
            unfold xAse
            rw [xc_newN (show xsz g + 1 ≠ xsz g + 1 + 1 from by omega), show xc (xNew (xNew g (xBlank 0 0 0) 40) (xBlank 0 0 0) 4) (xsz g + 1) = xBlank 0 0 0 from xc_new]
            rfl
          · by_cases hy4 : y = xsz g
            · subst hy4
              unfold xAse
              rw [xc_newN (show xsz g ≠ xsz g + 1 + 1 from by omega), xc_newN (show xsz g ≠ xsz g + 1 from by omega), show xc (xNew g (xBlank 0 0 0) 40) (xsz g) = xBlank 0 0 0 from xc_new]
              rfl
            · unfold xc
              rw [if_neg (show ¬ y < xsz (xAse g) from by rw [e5]; omega)]
              rfl
    have w := hr p L e R s m args below meth c z0 H1 locs ls rest ⟨Cx0, by rw [e5]; omega, by rw [e6]; omega, h3, h4, h5, h6, hRn, k5, hl⟩
    rw [e5, e6] at w
    have a1 : xsz g + 3 - s.heap.size = xsz g - s.heap.size + 3 := by omega
    have a2 : xsl g + 50 - z0 = xsl g - z0 + (40 + 10) := by omega
    rw [a1, a2] at w
    rw [k2, hR.1]
    exact w
  intro T hT X
  obtain ⟨t, a1, b1⟩ := note T hT X
  exact ⟨t, vz_refused X hx (by rw [hT]; exact q1) (fun z h => by rw [h] at q3; cases q3) q2 (by rw [q5]; exact f1) f2 hkT ⟨fun h => y1 (Or.inl h), by rw [z1, y2]; exact hk⟩ (by rw [hT]; exact v1) (fun z h => by rw [h] at v2; cases v2) v3 w3 rfl rfl (by rw [hb8]; exact hd) t a1, b1⟩
end X22
