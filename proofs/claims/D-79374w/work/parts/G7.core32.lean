/-! CORE 32: aastore of a float[] -/
set_option maxRecDepth 100000
theorem xw_aastF {M : xM} {d pc : Nat} {l : List (Nat × Value)} {rest : List Value} {g : xG} {Q : Option Value ⊕ Nat → xG → Prop} {a b k : Nat} {i : Int32} (hd : decode M.2.1 pc = .ok (.aastore, 1)) (ht : xtag g a = 114) (ho : xown g a ≠ 0) (hi : i = nI k) (hk : k < xlen g a) (hb : xtag g b = 105) (kk : XW M d (pc + 1) l rest (xsetR g a k (some b)) Q) : XW M d pc l (.ref b :: .int i :: .ref a :: rest) g Q := by
  refine xw_write (c0 := xcR (xc g a) (xup (xc g a).2.2.2.2.1 k (some b))) (fun p L e R s m args below meth c H locs cells slots Qf ls Cx hR hl kk9 => ?_) kk
  have hK := Cx.2.2.2.2.2.2.2.2.2.2.1
  obtain ⟨cell, q1, q2, q3, q4, q5, qA, z1, z2, z3, z4⟩ := x_arr (q := 13) (by decide) hK hR ht
  obtain ⟨y1, y2⟩ := x_idx hi hk z2
  obtain ⟨cv, v1, v2, v3, v4, v5, vA, -⟩ := x_arr (q := 4) (by decide) hK hR hb
  obtain ⟨kV, hkV, -⟩ := vA.2
  obtain ⟨comp, cA, kA, h1, h2, h3, h4, h5⟩ := arrayOverA_spec (show (Cond.arrayOver (.array .float)).before args s = true from hK.2.2.2.2.2.2.2.2.2.1.2.1)
  have hcA : cA = (xE g).2.1 114 := Option.some.inj (h5.symm.trans (hK.2.1 13 (by decide)).2)
  have e0 : (FieldType.array .float).toString = "[F" := by decide +kernel
  have hcomp : comp = (xE g).2.1 105 := by
    rw [e0] at h1
    exact Option.some.inj (h1.symm.trans (x_nmF s hK))
  have hcv : cv.cls = comp := v5.trans hcomp.symm
  refine W.aast Cx.1 Cx.2.1 q1 (fun z h => by rw [h] at q3; cases q3) q2 (by rw [q5]; show s.vm.classes[(xE g).2.1 114]? = _; rw [← hcA]; exact h3) h4 rfl (show s.vm.classes[comp]? = some kV by rw [← hcv]; exact hkV) ⟨fun h => y1 (Or.inl h), by rw [z1, y2]; exact hk⟩ v1 (fun z h => by rw [h] at v3; cases v3) hkV (by rw [hcv]; exact va_asg _ _) rfl rfl hd (fun H' e1 e2 e3 => ?_)
  rw [y2] at e1 ⊢
  exact kk9 H' _ (x_arrAt (q := 13) (v := .ref b) ht rfl rfl rfl (by simp [xval, xak, xcR, xup, xref]) (fun i hi ty' => xval_R hi ty') (by rfl) hk e1 q2 q3 q4 q5 z1 z2 z3 z4) (q4 ho).2 e2 e3
section L32
variable {p : Program} {l : Launch} {e : Env} {R : Room} {s : State} {m : MethodId} {args : Array Value} {below : List Frame} {meth : Method} {c : Code} {H : Heap} {locs : List Loc} {cells slots : Nat} {Q : State → Prop} {cc : ByteArray} {pc : Nat} {ls : Array Slot} {rest : List Value}
theorem vz_ldcwF {T : State} (X : Stand p l e R s m args below meth c T locs cells slots) (hexec : p.tables.exec = Jvm.exec) {own : String} {index : Nat} {v : UInt32} (hown : s.vm.findClass own = some m.cls)
    (hconst : (Cond.constantFloat own index v).before args s = true) {g : JFrame} (hg : g.method = m) (hdg : decode c.code g.pc = .ok (.ldc_w index, 3)) :
    ∀ target, Steps p.tables e below (T.setTop { g with pc := g.pc + 3, stack := .float v :: g.stack }) target → Steps p.tables e below (T.setTop g) target := by
  obtain ⟨k, cf, hk, hcf, hcp⟩ := Cond.constantFloat_spec hown hconst
  obtain ⟨k', hk', he⟩ := X.warmed.alike.2.2 _ _ hk
  intro target hrest
  subst hg
  jvm_step X.here [hexec, hdg, ldc_w.wp_float (s := T) (f := g) X.here.top hk' (by rw [he]; exact hcf) hcp]
  exact hrest
theorem lv_ldcwf (hexec : p.tables.exec = Jvm.exec) (hb : c.code = cc) {own : String} {index : Nat} {v : UInt32} (hown : s.vm.findClass own = some m.cls) (hconst : (Jvm.Cond.constantFloat own index v).before args s = true) (hdg : decode cc pc = .ok (.ldc_w index, 3)) (k : W p l e R s m args below meth c H locs cells slots Q (F0 m (pc + 3) ls (.float v :: rest))) : W p l e R s m args below meth c H locs cells slots Q (F0 m pc ls rest) := by
  intro T hT X
  obtain ⟨t, a, b⟩ := k T hT X
  exact ⟨t, vz_ldcwF X hexec hown hconst (g := F0 m pc ls rest) rfl (by rw [hb]; exact hdg) t a, b⟩
end L32
theorem xw_ldcwf {M : xM} {d pc : Nat} {l : List (Nat × Value)} {rest : List Value} {g : xG} {Q : Option Value ⊕ Nat → xG → Prop} {ix : Nat} {v : UInt32} (hd : decode M.2.1 pc = .ok (.ldc_w ix, 3)) (hc : Jvm.Cond.constantFloat M.1.cls ix v ∈ lw_all) (k : XW M d (pc + 3) l (.float v :: rest) g Q) : XW M d pc l (rest) g Q := xw_lift (fun _ _ _ _ _ _ _ _ _ _ _ _ _ _ _ _ hx hb hown hts hl kk => lv_ldcwf hx hb hown (hts _ hc) hd kk) k
