/-! CORE 12: Math.max, Math.min -/
set_option maxRecDepth 100000
section X12
variable {M : xM} {d pc : Nat} {l : List (Nat × Value)} {rest : List Value} {g : xG} {Q : Option Value ⊕ Nat → xG → Prop}
/-- a walk's step that reads the heap, with the room known -/
theorem xw_readC {pc' : Nat} {st st' : List Value}
    (h : ∀ (p : Program) (L : Launch) (e : Env) (R : Room) (s : State) (m : MethodId) (args : Array Value) (below : List Frame) (meth : Method) (c : Code) (H : Heap) (locs : List Loc) (cells slots : Nat) (Qf : State → Prop) (ls : Array Slot), xC M p L s m args meth c (xE g) → xR g H → va_S (xF (xE g)) s.heap H locs → lv_has ls M.2.2.1 l → xloc d ≤ R.locals → d ≤ R.frames → cells ≤ R.cells → slots ≤ R.slots →
      W p L e R s m args below meth c H locs cells slots Qf (F0 m pc' ls st') → W p L e R s m args below meth c H locs cells slots Qf (F0 m pc ls st))
    (k : XW M d pc' l st' g Q) : XW M d pc l st g Q := by
  obtain ⟨rs, g', hQ, hm, hr⟩ := k
  refine ⟨rs, g', hQ, hm, ?_⟩
  intro p L e R s m args below meth c z0 H locs ls S
  obtain ⟨C, h1, h2, h3, h4, h5, h6, hR, hS, hl⟩ := S
  have z1 := hm.2.1
  have z2 := hm.2.2
  exact h p L e R s m args below meth c H locs _ _ _ ls C hR hS hl h4 h3 (by omega) (by omega) (hr p L e R s m args below meth c z0 H locs ls ⟨C, h1, h2, h3, h4, h5, h6, hR, hS, hl⟩)
theorem x_maxc : Cond.code Lib.Math.max.name Lib.Math.max.code 2 (some .int) ∈ lw_all := by
  have e : Lib.Math.max.code = prog_45_method_65_code := by decide +kernel
  rw [e]
  exact q278
theorem x_minc : Cond.code Lib.Math.min.name Lib.Math.min.code 2 (some .int) ∈ lw_all := by
  have e : Lib.Math.min.code = prog_45_method_69_code := by decide +kernel
  rw [e]
  exact q296
theorem xw_mmax {idx : Nat} {x y : Int32} (hd : decode M.2.1 pc = .ok (.invokestatic idx, 3)) (hl : Cond.methodLink M.1.cls idx Lib.Math.max.name ∈ lw_all) (hi : Cond.initialized "java/lang/Math" ∈ lw_all) (hr : (rest.map fun v => v.category).sum ≤ 8) (k : XW M (d + 1) (pc + 3) l (.int (if x < y then y else x) :: rest) g Q) : XW M (d + 1) pc l (.int y :: .int x :: rest) g Q :=
  xw_readC (fun p L e R s m args below meth c H locs cells slots Qf ls C hR hS hl9 hlo hf hc hs kk => by
    have hts := C.2.2.2.2.2.1
    exact va_mmax C.1 C.2.1 (by rw [C.2.2.2.1]; exact hl9.1.symm) C.2.2.2.2.1 (hts _ hl) (hts _ q277) (hts _ hi) (hts _ x_maxc) (by omega) (by unfold xloc at hlo; omega) hc hs hd kk) k
theorem xw_mmin {idx : Nat} {x y : Int32} (hd : decode M.2.1 pc = .ok (.invokestatic idx, 3)) (hl : Cond.methodLink M.1.cls idx Lib.Math.min.name ∈ lw_all) (hi : Cond.initialized "java/lang/Math" ∈ lw_all) (hr : (rest.map fun v => v.category).sum ≤ 8) (k : XW M (d + 1) (pc + 3) l (.int (if y < x then y else x) :: rest) g Q) : XW M (d + 1) pc l (.int y :: .int x :: rest) g Q :=
  xw_readC (fun p L e R s m args below meth c H locs cells slots Qf ls C hR hS hl9 hlo hf hc hs kk => by
    have hts := C.2.2.2.2.2.1
    exact va_mmin C.1 C.2.1 (by rw [C.2.2.2.1]; exact hl9.1.symm) C.2.2.2.2.1 (hts _ hl) (hts _ q295) (hts _ hi) (hts _ x_minc) (by omega) (by unfold xloc at hlo; omega) hc hs hd kk) k
end X12
