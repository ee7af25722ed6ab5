/-! CORE 17: casts to the object's own class -/
set_option maxRecDepth 100000
theorem x_castSelf {s : State} {C : String} {c : ClassId} (h : s.vm.findClass C = some c) : va_Nw (.castable C C) s := by
  unfold va_Nw Cond.before Cond.holds
  simp [Cond.value, h, va_asg]
section X17
variable {M : xM} {d pc : Nat} {l : List (Nat × Value)} {rest : List Value} {g : xG} {Q : Option Value ⊕ Nat → xG → Prop}
theorem xw_chkS {a ix : Nat} (hd : decode M.2.1 pc = .ok (.checkcast ix, 3)) (hk : Cond.classLink M.1.cls ix (xnm (xtag g a)) ∈ lw_all) (ht : xcls (xtag g a) = true) (kk : XW M d (pc + 3) l (.ref a :: rest) g Q) : XW M d pc l (.ref a :: rest) g Q := by
  refine xw_read (fun p L e R s m args below meth c H locs cells slots Qf ls C hR hS hl _ _ kk9 => ?_) kk
  have hK := C.2.2.2.2.2.2.2.2.2.2.1
  obtain ⟨cell, h1, h2, h3⟩ := x_any hK hR ht
  exact va_castY C.1 C.2.1 C.2.2.2.2.1 (C.2.2.2.2.2.1 _ hk) (x_castSelf h3) ⟨cell, h1, h2, h3⟩ hd kk9
theorem xw_instS {a ix : Nat} (hd : decode M.2.1 pc = .ok (.instanceof ix, 3)) (hk : Cond.classLink M.1.cls ix (xnm (xtag g a)) ∈ lw_all) (ht : xcls (xtag g a) = true) (kk : XW M d (pc + 3) l (.int 1 :: rest) g Q) : XW M d pc l (.ref a :: rest) g Q := by
  refine xw_read (fun p L e R s m args below meth c H locs cells slots Qf ls C hR hS hl _ _ kk9 => ?_) kk
  have hK := C.2.2.2.2.2.2.2.2.2.2.1
  obtain ⟨cell, h1, h2, h3⟩ := x_any hK hR ht
  exact va_instY C.1 C.2.1 C.2.2.2.2.1 (C.2.2.2.2.2.1 _ hk) (x_castSelf h3) ⟨cell, h1, h2, h3⟩ hd kk9
/-- a test, a rule as such -/
theorem xw_chkT {a ix : Nat} (hd : decode M.2.1 pc = .ok (.checkcast ix, 3)) (hk : Cond.classLink M.1.cls ix "PolicyNotation$Test" ∈ lw_all) (h1 : 10 ≤ xtag g a) (h2 : xtag g a ≤ 13) (kk : XW M d (pc + 3) l (.ref a :: rest) g Q) : XW M d pc l (.ref a :: rest) g Q := by
  have h : xtag g a = 10 ∨ xtag g a = 11 ∨ xtag g a = 12 ∨ xtag g a = 13 := by omega
  rcases h with h | h | h | h <;> refine xw_chk hd hk (by rw [h]; rfl) (by rw [h]; (first | exact q2790 | exact q2792 | exact q2791 | exact q2793)) kk
theorem xw_chkR {a ix : Nat} (hd : decode M.2.1 pc = .ok (.checkcast ix, 3)) (hk : Cond.classLink M.1.cls ix "PolicyNotation$Rule" ∈ lw_all) (h : xtag g a = 6 ∨ xtag g a = 7) (kk : XW M d (pc + 3) l (.ref a :: rest) g Q) : XW M d pc l (.ref a :: rest) g Q := by
  rcases h with h | h <;> refine xw_chk hd hk (by rw [h]; rfl) (by rw [h]; (first | exact q2788 | exact q2789)) kk
end X17
