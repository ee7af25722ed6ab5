/-! CORE 6: returns, calls, exceptions -/
set_option maxRecDepth 100000
section X6
variable {M : xM} {d pc : Nat} {l : List (Nat × Value)} {rest : List Value} {g : xG} {Q : Option Value ⊕ Nat → xG → Prop}
/-- a return -/
theorem xw_end {st : List Value} {rs : Option Value}
    (h : ∀ (p : Program) (L : Launch) (e : Env) (R : Room) (s : State) (m : MethodId) (args : Array Value) (below : List Frame) (meth : Method) (c : Code) (H : Heap) (locs : List Loc) (cells slots : Nat) (ls : Array Slot) (Qc : Array Value → State → Outcome → State → Prop) (free : Addr → Prop), p.tables.exec = Jvm.exec → c.code = M.2.1 → meth.sig.returnType = M.2.2.2.1 → meth.locks = false → (∀ t : State, t.heap = H → s.WarmedH t.vm → Qc args s (.returned rs) t) → (∀ q ∈ locs, free q.base) →
      W p L e R s m args below meth c H locs cells slots (MQ below Qc args s cells slots free) (F0 m pc ls st))
    (hQ : Q (.inl rs) g) : XW M d pc l st g Q := by
  refine ⟨.inl rs, g, hQ, xMono.rf, ?_⟩
  intro p L e R s m args below meth c z0 H locs ls S
  obtain ⟨C, h1, h2, h3, h4, h5, h6, hR, hS, hl⟩ := S
  obtain ⟨hx, hb, hr, hml, hown, hts, hlocks, -⟩ := C
  exact vx_ret (h p L e R s m args below meth c H locs _ _ ls (xQc (.inl rs) g) (xF (xE g)) hx hb hr hlocks (fun t ht _ => ⟨rs, rfl, rfl, by rw [ht]; exact hR⟩) hS.2.2)
theorem xw_iret {v : Int32} (ty : FieldType) (hd : decode M.2.1 pc = .ok (.ireturn, 1)) (hr : M.2.2.2.1 = some ty) (hQ : Q (.inl (some (.int v))) g) (hn : narrow ty (.int v) = .int v := by rfl) : XW M d pc l [.int v] g Q :=
  xw_end (fun _ _ _ _ _ _ _ _ _ _ _ _ _ _ _ _ _ hx hb hr9 hlocks hq hf => W.zret hx hb (hr9.trans hr) hn hq hf hd hlocks) hQ
theorem xw_fret {v : UInt32} (hd : decode M.2.1 pc = .ok (.freturn, 1)) (hr : M.2.2.2.1 = some .float) (hQ : Q (.inl (some (.float v))) g) : XW M d pc l [.float v] g Q :=
  xw_end (fun _ _ _ _ _ _ _ _ _ _ _ _ _ _ _ _ _ hx hb hr9 hlocks hq hf => W.fret hx hb (hr9.trans hr) hq hf hd hlocks) hQ
theorem xw_dret {v : UInt64} (hd : decode M.2.1 pc = .ok (.dreturn, 1)) (hr : M.2.2.2.1 = some .double) (hQ : Q (.inl (some (.double v))) g) : XW M d pc l [.double v] g Q :=
  xw_end (fun _ _ _ _ _ _ _ _ _ _ _ _ _ _ _ _ _ hx hb hr9 hlocks hq hf => W.dret hx hb (hr9.trans hr) hq hf hd hlocks) hQ
theorem xw_vret (hd : decode M.2.1 pc = .ok (.return_, 1)) (hr : M.2.2.2.1 = none) (hQ : Q (.inl none) g) : XW M d pc l [] g Q :=
  xw_end (fun _ _ _ _ _ _ _ _ _ _ _ _ _ _ _ _ _ hx hb hr9 hlocks hq hf => W.vret hx hb (hr9.trans hr) hq hf hd hlocks) hQ
theorem xw_aret {v : Value} (rt : FieldType) (hd : decode M.2.1 pc = .ok (.areturn, 1)) (hr : M.2.2.2.1 = some rt) (hQ : Q (.inl (some v)) g) (hv : xisRef v = true := by first | rfl | exact xisRef_q _) (hrt : rt.isReference = true := by rfl) : XW M d pc l [v] g Q :=
  xw_end (fun _ _ _ _ _ _ _ _ _ _ _ _ _ _ _ _ _ hx hb hr9 hlocks hq hf => W.aret hx hb (hr9.trans hr) (by cases rt <;> first | (cases hrt; done) | exact Or.inl ⟨_, rfl⟩ | exact Or.inr ⟨_, rfl⟩) (by cases v <;> first | (cases hv; done) | exact Or.inl rfl | exact Or.inr ⟨_, rfl⟩) hq hf hd hlocks) hQ
/-! calls -/
def xMok (M : xM) (n : Nat) : Prop := (M.1.cls ≠ "java/lang/invoke/MethodHandle" ∧ M.1.cls ≠ "java/lang/invoke/VarHandle" ∧ (parseMethodDescriptor M.1.desc).map (fun d => d.parameters.length) = some n) ∧ GoodIn lw_all (xws M) ∧ Cond.initialized M.1.cls ∈ lw_all
def xCont (M : xM) (d pc : Nat) (l : List (Nat × Value)) (rest : List Value) (g1 : xG) (Q : Option Value ⊕ Nat → xG → Prop) : Option Value ⊕ Nat → Prop
  | .inl none => XW M d pc l rest g1 Q
  | .inl (some v) => XW M d pc l (v :: rest) g1 Q
  | .inr q => XX M d (pc - 3) l q g1 Q
/-- the call's instruction runs the callee, by any contract of hers -/
def xRun (M M' : xM) (d pc : Nat) (g : xG) (st0 rest as : List Value) : Prop := ∀ (p : Program) (L : Launch) (e : Env) (R : Room) (s : State) (m : MethodId) (args : Array Value) (below : List Frame) (meth : Method) (c : Code) (H : Heap) (locs : List Loc) (cells slots : Nat) (ls : Array Slot) (mc ms : Nat) (Pc : Array Value → State → Prop) (Qc : Array Value → State → Outcome → State → Prop) (XC : String → Addr → State → State → Prop) (free : Addr → Prop),
  xC M p L s m args meth c (xE g) → xR g H → ls.size = M.2.2.1 → d + 1 ≤ R.frames → xloc (d + 1) ≤ R.locals → cells + mc ≤ R.cells → slots + ms ≤ R.slots → FrameBlind Pc → (∀ U : State, U.heap = H → s.WarmedH U.vm → Pc as.toArray U) →
  vx_Met L M'.1 (xws M') { frames := d, cells := mc, slots := ms, locals := xloc d } Pc Qc XC mc ms free → vx_Run p L e R s m args below meth c H locs cells slots mc ms (F0 m pc ls st0) rest (Qc as.toArray) XC free
theorem x_under {s : State} {E : xEnv} {H1 : Heap} {locs L : List Loc} {g1 : xG} (hE : xE g1 = E) (hb : E.2.2.2.size ≤ s.heap.size) (h0 : ∀ q : Nat, q < E.2.2.2.size → s.heap[q]? = E.2.2.2[q]?) (hz : s.heap.size ≤ H1.size) (hR : xR g1 H1) (h1 : ∀ l ∈ locs, xF E l.base) (h2 : ∀ l ∈ L, xF E l.base) : va_S (xF E) s.heap H1 (locs ++ L) := by
  subst hE
  refine ⟨hz, fun q q1 q2 => ?_, fun l hl => ?_⟩
  · have q3 : q < (xE g1).2.2.2.size := Nat.not_le.mp q2
    rw [h0 q q3]
    exact hR.2.2.1 q q3
  · rcases List.mem_append.mp hl with h | h
    · exact h1 l h
    · exact h2 l h
theorem xw_call {M' : xM} {st0 as : List Value} {P : Option Value ⊕ Nat → xG → Prop} (hrun : xRun M M' d pc g st0 rest as) (hc : XM M' d as g P) (kk : ∀ rs g1, P rs g1 → xMono g g1 → xCont M (d + 1) (pc + 3) l rest g1 Q rs) : XW M (d + 1) pc l st0 g Q := by
  obtain ⟨rs1, g1, hP, hm1, hmet⟩ := hc
  have k := kk rs1 g1 hP hm1
  have blind : FrameBlind (va_Pc as (fun U => xR g U.heap ∧ xK (xE g) U)) := fun a U g9 mk h => ⟨h.1, h.2.1, xK.moved (State.WarmedH.refl U) h.2.2⟩
  cases rs1 with
  | inl v =>
    have k' : XW M (d + 1) (pc + 3) l (v.toList ++ rest) g1 Q := by cases v <;> exact k
    obtain ⟨rs, g', hQ, hm2, hr2⟩ := k'
    refine ⟨rs, g', hQ, hm1.tr hm2, ?_⟩
    intro p L e R s m args below meth c z0 H locs ls S
    obtain ⟨C, h1, h2, h3, h4, h5, h6, hR, hS, hl⟩ := S
    have a1 := hm1.2.1
    have a2 := hm2.2.1
    have a3 := hm1.2.2
    have a4 := hm2.2.2
    have run := hrun p L e R s m args below meth c H locs (xsz g - s.heap.size) (xsl g - z0) ls _ _ _ _ _ _ C hR hl.1 h3 h4 (by omega) (by omega) blind (fun U hU hW => ⟨rfl, by rw [hU]; exact hR, C.2.2.2.2.2.2.2.2.2.2.1.moved hW⟩) (hmet L C.2.2.2.2.2.2.2.2.2.1)
    intro T hT X
    rcases run T hT X with ⟨v', st₀, t, T', L', h0, X', hL, e1, e2, ⟨v'', hv, ho, hR1⟩, st⟩ | ⟨q, st₀, t, T', L', E, ce, h0, X', hL, e1, e2, ⟨hv, -⟩, -⟩
    · cases hv
      cases ho
      rw [← e1] at hR1
      have hz : s.heap.size ≤ T'.heap.size := by rw [hR1.1]; omega
      have e3 : xsz g - s.heap.size + (xsz g1 - xsz g) = xsz g1 - s.heap.size := by omega
      have e4 : xsl g - z0 + (xsl g1 - xsl g) = xsl g1 - z0 := by omega
      rw [e3, e4] at X'
      have w := hr2 p L e R s m args below meth c z0 T'.heap (locs ++ L') ls ⟨by rw [hm1.1]; exact C, by omega, by omega, h3, h4, h5, h6, hR1, by rw [hm1.1]; exact x_under hm1.1 C.2.2.2.2.2.2.2.2.2.2.2.1 C.2.2.2.2.2.2.2.2.2.2.2.2 hz hR1 hS.2.2 hL, hl⟩
      rw [hm1.1] at w
      obtain ⟨t2, b1, b2⟩ := w T' rfl X'
      exact ⟨t2, st t2 b1, b2⟩
    · cases hv
  | inr q0 =>
    obtain ⟨rs, g', hQ, hm2, hr2⟩ := (show XX M (d + 1) pc l q0 g1 Q from k)
    refine ⟨rs, g', hQ, hm1.tr hm2, ?_⟩
    intro p L e R s m args below meth c z0 H locs ls S
    obtain ⟨C, h1, h2, h3, h4, h5, h6, hR, hS, hl⟩ := S
    have a1 := hm1.2.1
    have a2 := hm2.2.1
    have a3 := hm1.2.2
    have a4 := hm2.2.2
    have run := hrun p L e R s m args below meth c H locs (xsz g - s.heap.size) (xsl g - z0) ls _ _ _ _ _ _ C hR hl.1 h3 h4 (by omega) (by omega) blind (fun U hU hW => ⟨rfl, by rw [hU]; exact hR, C.2.2.2.2.2.2.2.2.2.2.1.moved hW⟩) (hmet L C.2.2.2.2.2.2.2.2.2.1)
    intro T hT X
    rcases run T hT X with ⟨v', st₀, t, T', L', h0, X', hL, e1, e2, ⟨v'', hv, -⟩, st⟩ | ⟨q, st₀, t, T', L', E, ce, h0, X', hL, e1, e2, ⟨hv, hR1, hE1⟩, hce, hcv, hcl, st⟩
    · cases hv
    · cases hv
      rw [← e1] at hR1
      have hz : s.heap.size ≤ T'.heap.size := by rw [hR1.1]; omega
      have e3 : xsz g - s.heap.size + (xsz g1 - xsz g) = xsz g1 - s.heap.size := by omega
      have e4 : xsl g - z0 + (xsl g1 - xsl g) = xsl g1 - z0 := by omega
      rw [e3, e4] at X'
      have w := hr2 p L e R s m args below meth c z0 T'.heap (locs ++ L') ls rest ⟨by rw [hm1.1]; exact C, by omega, by omega, h3, h4, h5, h6, hR1, by rw [hm1.1]; exact x_under hm1.1 C.2.2.2.2.2.2.2.2.2.2.2.1 C.2.2.2.2.2.2.2.2.2.2.2.2 hz hR1 hS.2.2 hL, hl⟩
      rw [hm1.1] at w
      obtain ⟨t2, b1, b2⟩ := w T' rfl X'
      exact ⟨t2, st.trans b1, b2⟩
theorem x_cat {rest : List Value} (h : (rest.map fun v => v.category).sum ≤ 8) (m : MethodId) (ls : Array Slot) (st : List Value) : 2 * (F0 m pc ls st).monitorRoom + (rest.map fun v => v.category).sum ≤ 8 := by
  show 2 * 0 + _ ≤ 8
  omega
theorem x_good {M' : xM} (h : GoodIn lw_all (xws M')) {s : State} {args : Array Value} (hts : ∀ w ∈ lw_all, w.before args s = true) {w : Cond} (hw : w ∈ xws M') : w.before args s = true := hts w (h w hw).1
/-- what a call asks of the callee without handlers -/
theorem x_cb {M' : xM} {n idx mc ms : Nat} {own : String} {R : Room} {s : State} {args : Array Value} (hM : xMok M' n) (hh : M'.2.2.2.2 = []) (hloc : M'.2.2.1 ≤ 40) (hts : ∀ w ∈ lw_all, w.before args s = true) (hf : d + 1 ≤ R.frames) (hlo : xloc (d + 1) ≤ R.locals) (hl : Cond.methodLink own idx M'.1 ∈ lw_all) :
    CallB R s args own idx M'.1 M'.2.1 M'.2.2.1 M'.2.2.2.1 (xws M') { frames := d, cells := mc, slots := ms, locals := xloc d } mc ms n := by
  obtain ⟨y, cc, nL, ret, hh9⟩ := M'
  have h9 : hh9 = [] := hh
  subst h9
  obtain ⟨hd, hG, hini⟩ := hM
  have e1 : xloc (d + 1) = xloc d + 64 := by unfold xloc; omega
  exact callB_of n hts hG rfl rfl rfl (hts _ hini) (hts _ hl) hd ⟨hf, by have : nL ≤ 40 := hloc; show 8 + (nL + 11) + xloc d ≤ R.locals; omega⟩
theorem x_cbW {M' : xM} {n idx mc ms : Nat} {own : String} {R : Room} {s : State} {args : Array Value} {h9 : Nat × Nat × Nat × Nat} {t9 : List (Nat × Nat × Nat × Nat)} (hM : xMok M' n) (hh : M'.2.2.2.2 = h9 :: t9) (hloc : M'.2.2.1 ≤ 40) (hts : ∀ w ∈ lw_all, w.before args s = true) (hf : d + 1 ≤ R.frames) (hlo : xloc (d + 1) ≤ R.locals) (hl : Cond.methodLink own idx M'.1 ∈ lw_all) :
    (mc = mc ∧ ms = ms ∧ d + 1 ≤ R.frames ∧ 8 + (M'.2.2.1 + 11) + xloc d ≤ R.locals ∧ (∀ w ∈ xws M', ∀ (a' : Array Value) (U : State), s.WarmedH U.vm → w.before a' U = true) ∧ Cond.codeWith M'.1 M'.2.1 M'.2.2.1 M'.2.2.2.1 (h9 :: t9) ∈ xws M') ∧
    (Cond.codeWith M'.1 M'.2.1 M'.2.2.1 M'.2.2.2.1 (h9 :: t9)).before args s = true ∧ (Cond.initialized M'.1.cls).before args s = true ∧ (M'.1.cls ≠ "java/lang/invoke/MethodHandle" ∧ M'.1.cls ≠ "java/lang/invoke/VarHandle") ∧ (∀ sig, parseMethodDescriptor M'.1.desc = some sig → n = sig.parameters.length) ∧ (Cond.methodLink own idx M'.1).before args s = true := by
  obtain ⟨y, cc, nL, ret, hh9⟩ := M'
  have e9 : hh9 = h9 :: t9 := hh
  subst e9
  obtain ⟨hd, hG, hini⟩ := hM
  have e1 : xloc (d + 1) = xloc d + 64 := by unfold xloc; omega
  have hc : Cond.codeWith y cc nL ret (h9 :: t9) ∈ xws (y, cc, nL, ret, h9 :: t9) := List.mem_cons_self
  refine ⟨⟨rfl, rfl, hf, by have : nL ≤ 40 := hloc; show 8 + (nL + 11) + xloc d ≤ R.locals; omega, pay_in hts hG, hc⟩, hts _ (hG _ hc).1, hts _ hini, ⟨hd.1, hd.2.1⟩, fun sig h => ?_, hts _ hl⟩
  have h2 := hd.2.2
  rw [h] at h2
  exact (Option.some.inj h2).symm
/-- invokestatic -/
theorem xr_S {M' : xM} {n idx : Nat} {as st0 : List Value} (hM : xMok M' n) (hh : M'.2.2.2.2 = []) (hloc : M'.2.2.1 ≤ 40) (hl : Cond.methodLink M.1.cls idx M'.1 ∈ lw_all) (hs : Cond.static M'.1 ∈ lw_all) (hd : decode M.2.1 pc = .ok (.invokestatic idx, 3)) (hn : as.length = n) (hst : as.reverse ++ rest = st0) (hr : (rest.map fun v => v.category).sum ≤ 8) : xRun M M' d pc g st0 rest as := by
  intro p L e R s m args below meth c H locs cells slots ls mc ms Pc Qc XC free C hR hz hf hlo hc1 hc2 blind hP hMet
  subst hst
  have hts := C.2.2.2.2.2.1
  exact vx_runS ⟨C.1, C.2.1, C.2.2.2.1, C.2.2.2.2.1, hts⟩ hMet ⟨x_cb hM hh hloc hts hf hlo hl, hts _ hs⟩ ⟨blind, hP⟩ rfl hn hz rfl (x_cat hr m ls _) hd ⟨hc1, hc2⟩
/-- invokevirtual, the receiver's class declares it -/
theorem xr_V {M' : xM} {n idx b : Nat} {as st0 : List Value} (hM : xMok M' n) (hh : M'.2.2.2.2 = []) (hloc : M'.2.2.1 ≤ 40) (hl : Cond.methodLink M.1.cls idx M'.1 ∈ lw_all) (hi : Cond.instanceMethod M'.1 ∈ lw_all) (hse : Cond.selects M'.1.cls M'.1 M'.1 ∈ lw_all) (ht : xcls (xtag g b) = true) (hnm : xnm (xtag g b) = M'.1.cls) (hd : decode M.2.1 pc = .ok (.invokevirtual idx, 3)) (hn : as.length = n) (hst : as.reverse ++ .ref b :: rest = st0) (hr : (rest.map fun v => v.category).sum ≤ 8) : xRun M M' d pc g st0 rest (.ref b :: as) := by
  intro p L e R s m args below meth c H locs cells slots ls mc ms Pc Qc XC free C hR hz hf hlo hc1 hc2 blind hP hMet
  subst hst
  have hts := C.2.2.2.2.2.1
  have hrc := x_any C.2.2.2.2.2.2.2.2.2.2.1 hR ht
  rw [hnm] at hrc
  exact vx_runV (C := M'.1.cls) (b := b) (As := as) ⟨C.1, C.2.1, C.2.2.2.1, C.2.2.2.2.1, hts⟩ hMet ⟨x_cb hM hh hloc hts hf hlo hl, hts _ hi, hts _ hse⟩ ⟨blind, hrc, hP⟩ rfl hn hz rfl (x_cat hr m ls _) hd ⟨hc1, hc2⟩
/-- a constructor -/
theorem xr_I {M' : xM} {n idx b : Nat} {as st0 : List Value} (hM : xMok M' n) (hh : M'.2.2.2.2 = []) (hloc : M'.2.2.1 ≤ 40) (hl : Cond.methodLink M.1.cls idx M'.1 ∈ lw_all) (hi : Cond.instanceMethod M'.1 ∈ lw_all) (hret : M'.2.2.2.1 = none) (hnm : M'.1.name = "<init>") (hd : decode M.2.1 pc = .ok (.invokespecial idx, 3)) (hn : as.length = n) (hst : as.reverse ++ .ref b :: rest = st0) (hr : (rest.map fun v => v.category).sum ≤ 8) : xRun M M' d pc g st0 rest (.ref b :: as) := by
  intro p L e R s m args below meth c H locs cells slots ls mc ms Pc Qc XC free C hR hz hf hlo hc1 hc2 blind hP hMet
  subst hst
  have hts := C.2.2.2.2.2.1
  have cb : CallB R s args M.1.cls idx M'.1 M'.2.1 M'.2.2.1 none (xws M') { frames := d, cells := mc, slots := ms, locals := xloc d } mc ms n := by
    rw [← hret]
    exact x_cb hM hh hloc hts hf hlo hl
  exact vx_runI (b := b) (As := as) ⟨C.1, C.2.1, C.2.2.2.1, C.2.2.2.2.1, hts⟩ hMet ⟨cb, hnm, hts _ hi⟩ ⟨blind, hP⟩ rfl hn hz rfl (x_cat hr m ls _) hd ⟨hc1, hc2⟩
end X6
