/-! CORE 28: new E(), with handlers about -/
set_option maxRecDepth 100000
section VMK0
variable {p : Program} {l : Launch} {e : Env} {R : Room} {s : State} {m : MethodId} {args : Array Value} {below : List Frame} {meth : Method} {c : Code} {H : Heap} {locs : List Loc} {cells slots : Nat} {Q : State → Prop} {ls : Array Slot} {rest : List Value}
theorem vx_mk0 {cc : ByteArray} {pc : Nat} (hexec : p.tables.exec = Jvm.exec) (hb : c.code = cc) (hl : l.stackTraces = false) {own cls : String} {names : List String} {ik ic : Nat} {A : Nat → Prop}
    (hown : s.vm.findClass own = some m.cls) (hcls : Bundle.fit cls = true) (hnames : ∀ n ∈ names, Bundle.fit n = true)
    (hk : (Cond.classLink own ik cls).before args s = true) (hini : (Cond.initialized cls).before args s = true) (hat : ∀ w ∈ vx_at0 own ic cls names, w.before args s = true)
    (hgood : ∀ w ∈ Cond.classLink own ik cls :: Cond.initialized cls :: vx_at0 own ic cls names, vx_ot w = true)
    (hU : vx_Zq Bundle.tN "UNASSIGNED_STACK" Bundle.steD A s s.heap) (hN : vx_Zq Bundle.tN "SUPPRESSED_SENTINEL" Bundle.listD A s s.heap) (hS : va_S A s.heap H locs) (hsize : ls.size = c.maxLocals)
    (d0 : decode cc pc = .ok (.new ik, 3)) (d3 : decode cc (pc + 3) = .ok (.dup, 1)) (d4 : decode cc (pc + 4) = .ok (.invokespecial ic, 3))
    (hRframes : names.length + 3 < R.frames) (hRlocals : (rest.map fun v => v.category).sum + (13 * (names.length + 1) + 42) ≤ R.locals) (hRcells : cells + 1 ≤ R.cells) (hRslots : slots + 6 ≤ R.slots)
    (kk : ∀ (ce : Cell) (H1 : Heap), H1.size = H.size + 1 → (∀ q : Nat, q < H.size → H1[q]? = H[q]?) → H1[H.size]? = some ce → ce.vm = .none → s.vm.findClass cls = some ce.cls → W p l e R s m args below meth c H1 locs (cells + 1) (slots + 6) Q (F0 m (pc + 7) ls (.ref H.size :: rest))) :
    W p l e R s m args below meth c H locs cells slots Q (F0 m pc ls rest) := by
  intro T hT X
  subst hT
  have htr : e.platform.stackTraces = false := (show e.platform.stackTraces = l.stackTraces by rw [X.admits.platform]).trans hl
  have Y := vx_rebase X (R' := { frames := R.frames, locals := R.locals, cells := 1, slots := 6 }) (Nat.le_refl _) (Nat.le_refl _) hRcells hRslots
  obtain ⟨s', hA'⟩ : ∃ z, z = (T.setVm s.vm).setFrames (.invoking m args :: below) := ⟨_, rfl⟩
  rw [← hA'] at Y
  have hvm : s'.vm = s.vm := by rw [hA']; rfl
  have hhp : s'.heap = T.heap := by rw [hA']; rfl
  have hW0 : s.WarmedH s'.vm := by rw [hvm]; exact State.WarmedH.refl s
  have hat' : ∀ w ∈ vx_at0 own ic cls names, w.before args s' = true := fun w hw => vx_ot_at hW0 hvm.symm (hgood w (List.mem_cons_of_mem _ (List.mem_cons_of_mem _ hw))) (hat w hw)
  have hk' : (Cond.classLink own ik cls).before args s' = true := vx_ot_at hW0 hvm.symm (hgood _ List.mem_cons_self) hk
  have hini' : (Cond.initialized cls).before args s' = true := vx_ot_at hW0 hvm.symm (hgood _ (List.mem_cons_of_mem _ List.mem_cons_self)) hini
  have hU' : vx_Zq Bundle.tN "UNASSIGNED_STACK" Bundle.steD A s' s'.heap := by rw [hhp]; exact vx_Zq.moved hW0.alike (hU.kept hS.2.1)
  have hN' : vx_Zq Bundle.tN "SUPPRESSED_SENTINEL" Bundle.listD A s' s'.heap := by rw [hhp]; exact vx_Zq.moved hW0.alike (hN.kept hS.2.1)
  have h : ∀ w ∈ Bundle.ownAtoms0 own ic cls names, w.before args s' = true := vx_own hat' (vx_isRefq hU'.1) (vx_isRefq hN'.1) hU'.2.word hN'.2.word
  have hown' : s'.vm.findClass own = some m.cls := by rw [hvm]; exact hown
  have hins : (Cond.instantiable cls 6).before args s' = true := h _ (by simp [Bundle.ownAtoms0])
  obtain ⟨vm₁, cX, kX, hfX, hkX, -, -, X₁, st1⟩ := Y.newCold hexec (own := own) (C := cls) (index := ik) (n := 6) hown' hk' hins hini'
    (g := F0 m pc ls rest) rfl (by rw [hb]; exact d0) (Nat.le_refl _) (Nat.le_refl _)
  generalize hT1 : (T.setVm vm₁).pushCell { cls := cX, slots := kX.instanceTypes.map defaultValue, vm := .none } = T1 at X₁ st1
  have hcat : (Value.ref T.heap.size).category = 1 := rfl
  have hcellA : T1.heap[T.heap.size]? = some (freshCell cX kX) := by rw [← hT1]; exact State.heap_pushCell_size _ _
  have d3' : decode c.code (pc + 3) = .ok (.dup, 1) := by rw [hb]; exact d3
  obtain ⟨V, ce, L, Z, hL, hlt, hcl9, hvm9, st⟩ := vx_ctorMade0 X₁ hexec htr (own := own) (cls := cls) (names := names) (ic := ic) hown' hcls hnames h (fun x hx => nomatch hx) hfX hkX hcellA (by rw [hhp]; exact Nat.le_refl _)
    (g := { method := m, pc := pc + 4, locals := ls, stack := .ref T.heap.size :: .ref T.heap.size :: rest, locked := none }) rfl hsize (rest := rest) rfl
    (by rw [hb]; exact d4) hRframes (by simp only [List.map_cons, List.sum_cons, hcat]; omega)
  have Z0 := Stand.forget (locs := []) Z (fun y hy => by rw [hL y hy, hhp]; exact Nat.le_refl _)
  obtain ⟨f1, f2⟩ := vx_frame Z0.same
  rw [hhp] at f1 f2
  have hcl : s.vm.findClass cls = some ce.cls := by
    rw [hvm] at hfX
    rw [hcl9]
    exact hfX
  have hzz : (V.setCell T.heap.size ce).heap.size = T.heap.size + 1 := by
    have a1 : (V.setCell T.heap.size ce).heap.size ≤ s'.heap.size + (0 + 1) := Z0.same.2.2.1
    rw [hhp] at a1
    have a2 : T.heap.size < (V.setCell T.heap.size ce).heap.size := (Array.getElem?_eq_some_iff.mp (heapAt_setCell_self (s := V) ce hlt)).1
    omega
  have hh : (V.setCell T.heap.size ce).heap[T.heap.size]? = some ce := heapAt_setCell_self (s := V) ce hlt
  subst hA'
  have X5 := vx_back9 X Y Z0
  have X6 : Stand p l e R s m args below meth c (V.setCell T.heap.size ce) locs (cells + 1) (slots + 6) := { X5 with same := X5.same.mono (by omega) (by omega) }
  obtain ⟨t, a1, b1⟩ := kk ce (V.setCell T.heap.size ce).heap hzz (fun q hq => f2 q hq (fun z hz => nomatch hz)) hh hvm9 hcl _ rfl X6
  refine ⟨t, st1 _ ?_, b1⟩
  show Steps p.tables e below (T1.setTop { method := m, pc := pc + 3, locals := ls, stack := .ref T.heap.size :: rest, locked := none }) _
  jvm_step X₁.here [X₁.here.top, hexec, d3', Value.category]
  exact st _ a1
end VMK0
section X28
variable {M : xM} {d pc : Nat} {l : List (Nat × Value)} {rest : List Value} {g : xG} {Q : Option Value ⊕ Nat → xG → Prop}
theorem xw_makeD {pc' n : Nat} {c0 : xCell} {st st' : List Value}
    (h : ∀ (p : Program) (L : Launch) (e : Env) (R : Room) (s : State) (m : MethodId) (args : Array Value) (below : List Frame) (meth : Method) (c : Code) (H : Heap) (locs : List Loc) (cells slots : Nat) (Qf : State → Prop) (ls : Array Slot), xC M p L s m args meth c (xE g) → xR g H → va_S (xF (xE g)) s.heap H locs → lv_has ls M.2.2.1 l → d ≤ R.frames → xloc d ≤ R.locals → cells + 1 ≤ R.cells → slots + n ≤ R.slots →
      (∀ H' : Heap, xAt (xE g) H.size c0 H' → H'.size = H.size + 1 → (∀ q : Nat, q < H.size → H'[q]? = H[q]?) → W p L e R s m args below meth c H' locs (cells + 1) (slots + n) Qf (F0 m pc' ls st')) → W p L e R s m args below meth c H locs cells slots Qf (F0 m pc ls st))
    (k : XW M d pc' l st' (xNew g c0 n) Q) : XW M d pc l st g Q := by
  obtain ⟨rs, g', hQ, hm, hr⟩ := k
  have hz : xsz (xNew g c0 n) = xsz g + 1 := rfl
  have hy : xsl (xNew g c0 n) = xsl g + n := rfl
  refine ⟨rs, g', hQ, ⟨hm.1, by have := hm.2.1; omega, by have := hm.2.2; omega⟩, ?_⟩
  intro p L e R s m args below meth c z0 H locs ls S
  obtain ⟨C, h1, h2, h3, h4, h5, h6, hR, hS, hl⟩ := S
  have hz1 : xsz g - s.heap.size + 1 = xsz (xNew g c0 n) - s.heap.size := by omega
  have hz2 : xsl g - z0 + n = xsl (xNew g c0 n) - z0 := by omega
  have z1 := hm.2.1
  have z2 := hm.2.2
  refine h p L e R s m args below meth c H locs _ _ _ ls C hR hS hl h3 h4 (by omega) (by omega) (fun H' e1 e3 e4 => ?_)
  rw [hz1, hz2]
  refine hr p L e R s m args below meth c z0 H' _ ls ⟨C, by omega, by omega, h3, h4, h5, h6, ⟨by rw [e3, hR.1]; exact hz.symm, by rw [e3]; exact Nat.le_succ_of_le hR.2.1, fun q hq => ?_, fun b => ?_⟩, ⟨by rw [e3]; exact Nat.le_succ_of_le hS.1, fun q q1 q2 => (e4 q (Nat.lt_of_lt_of_le q1 hS.1)).trans (hS.2.1 q q1 q2), hS.2.2⟩, hl⟩
  · rw [e4 q (Nat.lt_of_lt_of_le hq hR.2.1)]
    exact hR.2.2.1 q hq
  · by_cases hb : b = H.size
    · subst hb
      rw [hR.1, xc_new]
      rw [hR.1] at e1
      exact e1
    · rw [xc_newN (by rw [← hR.1]; exact hb)]
      rcases hR.2.2.2 b with h0 | ⟨cell, q1, q2⟩
      · exact Or.inl h0
      · have hb1 : b < H.size := (Array.getElem?_eq_some_iff.mp q1).1
        exact Or.inr ⟨cell, by rw [e4 b hb1]; exact q1, q2⟩
/-- new E(), not thrown yet -/
theorem xw_mkX {cls : String} {names : List String} {ik ic : Nat} {T : u_T} {N : Nat} (tg : Nat) (hcx : xcl[tg - 1]? = some (cls, T, N)) (h22 : 22 ≤ tg) (h28 : tg < 28) (hln : names.length = 2) (hcls : Bundle.fit cls = true) (hnames : ∀ n ∈ names, Bundle.fit n = true)
    (hk : Cond.classLink M.1.cls ik cls ∈ lw_all) (hini : Cond.initialized cls ∈ lw_all) (hat : ∀ w ∈ vx_at0 M.1.cls ic cls names, w ∈ lw_tbl ∧ (goodWord w = true ∨ xwarm w)) (hgood : (Cond.classLink M.1.cls ik cls :: Cond.initialized cls :: vx_at0 M.1.cls ic cls names).all vx_ot = true)
    (d0 : decode M.2.1 pc = .ok (.new ik, 3)) (d3 : decode M.2.1 (pc + 3) = .ok (.dup, 1)) (d4 : decode M.2.1 (pc + 4) = .ok (.invokespecial ic, 3)) (hr : (rest.map fun v => v.category).sum ≤ 8)
    (kk : XW M (d + 6) (pc + 7) l (.ref (xsz g) :: rest) (xExc g tg) Q) : XW M (d + 6) pc l rest g Q := by
  refine xw_makeD (c0 := xBlank tg 9 0) (n := 6) (pc' := pc + 7) (st' := .ref (xsz g) :: rest) (fun p L e R s m args below meth c H locs cells slots Qf ls Cx hR hS hl hfr hlo hc1 hc2 kk9 => ?_) kk
  obtain ⟨hx, hb, hr9, hml, hown, hts, hlocks, hname, htab, hL, hK, hbase, hbq⟩ := Cx
  have hZ : ∀ q ∈ xsq, vx_Zq q.1 q.2.1 q.2.2 (xF (xE g)) s s.heap := fun q hq => (hK.2.2.2.2.2.2.1 q hq).kept (fun a ha _ => hbq a ha)
  refine vx_mk0 (ik := ik) (ic := ic) (cls := cls) (names := names) (A := xF (xE g)) hx hb hL hown hcls hnames (hts _ hk) (hts _ hini) (xt_use hat hts hK) (fun w hw => List.all_eq_true.mp hgood w hw) (hZ _ (List.mem_cons_self)) (hZ _ (List.mem_cons_of_mem _ List.mem_cons_self)) hS (by rw [hml]; exact hl.1) d0 d3 d4 (by omega) (by rw [hln]; unfold xloc at hlo; omega) hc1 hc2 (fun ce H1 z1 o1 h1 hv hcl => ?_)
  obtain ⟨hS1, hfc, kC, hkC, hkind⟩ := hK.1 _ _ hcx
  rw [← hR.1] at kk9
  refine kk9 H1 (Or.inr ⟨ce, h1, by rw [hv]; exact fun h => (by cases h), by rw [hv]; rfl, fun _ => ⟨hv, hR.2.1⟩, ?_, fun _ => ⟨Nat.zero_le _, ?_⟩, fun h => ?_, fun j hj => absurd hj (Nat.not_lt_zero j)⟩) z1 o1
  · have e9 : xcid (xE g) tg = (xE g).1.1 (tg - 1) := if_pos (by omega)
    refine Eq.trans ?_ e9.symm
    exact Option.some.inj (hcl.symm.trans hfc)
  · show xmin tg ≤ 0
    unfold xmin
    rw [if_neg (by omega), if_pos h22]
    exact Nat.le_refl _
  · have : 100 ≤ tg := h
    omega
end X28
