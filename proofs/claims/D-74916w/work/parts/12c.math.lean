/-! Math's own methods; contracts of methods of a class some of whose methods the machine runs itself -/
theorem ct_introF {D : zG} {B : Nat} {y : MethodName} {rm : Room} {av : List Value} {G : zH} {post : Option Value → zH → Prop} {px : String → Nat → zH → Prop} {cc : ByteArray} {maxL : Nat} {ret : Option FieldType} (hy : plainFor y = true) (hlen : (lg_sl av).length ≤ maxL)
    (body : ∀ X : zX, Cx X D B y.cls cc ret [] y.name post px rm → Z X 0 (zentry maxL av) [] G 0 0) : Ct D B y (ws_ y cc maxL ret) rm av G post px := by
  intro l hst
  refine MetFree.of_bodySF (code := cc) (maxLocals := maxL) (ret := ret) hy ?_ ?_
  · intro args s m h hn
    obtain ⟨meth, c, h1, h2, h3, h4, h5, h6, -, -⟩ := Cond.code_spec hn (atoms_spec (ws := ws_ y cc maxL ret) h _ List.mem_cons_self)
    exact ⟨meth, c, h1, h2, h3, h4, h5, h6⟩
  · intro p e s m args below meth c s₁ BL hml hv _
    have hh0 : s₁.heap = s.heap := by rw [BL.state]; rfl
    have htab : ∀ x ∈ c.exceptionTable.toList, False := by
      obtain ⟨meth9, c9, h1, h2, -, -, -, -, h7, -⟩ := Cond.code_spec BL.named (atoms_spec (ws := ws_ y cc maxL ret) BL.pre _ List.mem_cons_self)
      cases Option.some.inj (h1.symm.trans BL.method)
      cases Option.some.inj (h2.symm.trans (Stand.of_body BL).code)
      intro x hx
      rw [Array.isEmpty_iff.mp h7] at hx
      cases hx
    obtain ⟨rfl, hW, hI⟩ := hv
    have hts := atoms_spec (ws := ws_ y cc maxL ret) BL.pre
    have hts : ∀ w ∈ lw_all, w.before _ s = true := fun w h => hts w (List.mem_cons_of_mem _ h)
    have hnil : c.exceptionTable.toList = tableOf [] := by
      cases h : c.exceptionTable.toList with
      | nil => rfl
      | cons x r => exact (htab x (by rw [h]; exact List.mem_cons_self)).elim
    have key := body (p, l, e, (headSpec (ws_ y cc maxL ret) rm).room, s, m, av.toArray, below, meth, c, vx_MQ below (zQ D B post) (zQX D B px) av.toArray s rm.cells rm.slots (zA B), D, B, maxL)
      ⟨BL.exec, BL.bytes, hml, findClass_of_methodNamed BL.named, hts, hW, BL.notSynchronized, BL.returns, (name_of_methodNamed BL.named BL.method).1, hnil, hst, rfl, rfl, rfl, rfl, hI.1⟩
    rw [lg_entry_eq]
    obtain ⟨t, a1, o, b1, b2, b3⟩ := key s.heap [] _ hI va_S.rf (zL_entry hlen) s₁ hh0 (Stand.of_body BL)
    exact ⟨t, o, a1, b1, b2, b3⟩
section ZR4
variable {X : zX} {D : zG} {B : Nat} {own : String} {cc : ByteArray} {ret : Option FieldType} {hh : List (Nat × Nat × Nat × Nat)} {nm : String} {post : Option Value → zH → Prop} {px : String → Nat → zH → Prop} {rm : Room} {pc : Nat} {L : zLs} {rest : List Value} {G : zH} {n0 k0 : Nat}
theorem z_mabs (C : Cx X D B own cc ret hh nm post px rm) {index : Nat} {x : Int32} (h1 : Cond.methodLink own index Lib.Math.abs.name ∈ lw_all) (h2 : Cond.static Lib.Math.abs.name ∈ lw_all) (h3 : Cond.initialized "java/lang/Math" ∈ lw_all) (h4 : Cond.code Lib.Math.abs.name Lib.Math.abs.code 1 (some .int) ∈ lw_all) (hf : 1 ≤ rm.frames) (hl : (rest.map fun v => v.category).sum + 13 ≤ rm.locals) (hn : n0 ≤ rm.cells) (hk : k0 ≤ rm.slots) (hdg : decode cc pc = .ok (.invokestatic index, 3))
    (g : Z X (pc + 3) L (.int (if 0 ≤ x then x else 0 - x) :: rest) G n0 k0) : Z X pc L (.int x :: rest) G n0 k0 := by
  obtain ⟨p, l, e, R, s, m, args, below, meth, c, Q, D0, B0, nL⟩ := X
  obtain ⟨hx, hb, hml, hown, hts, -, -, -, -, -, -, rfl, rfl, rfl, rfl, -⟩ := C
  intro H locs ls hI hS hL
  exact va_mabs hx hb (hml.trans hL.2.1.symm) hown (hts _ h1) (hts _ h2) (hts _ h3) (hts _ h4) hf hl hn hk hdg (g H locs ls hI hS hL)
theorem z_mmax (C : Cx X D B own cc ret hh nm post px rm) {index : Nat} {x y : Int32} (h1 : Cond.methodLink own index Lib.Math.max.name ∈ lw_all) (h2 : Cond.static Lib.Math.max.name ∈ lw_all) (h3 : Cond.initialized "java/lang/Math" ∈ lw_all) (h4 : Cond.code Lib.Math.max.name Lib.Math.max.code 2 (some .int) ∈ lw_all) (hf : 1 ≤ rm.frames) (hl : (rest.map fun v => v.category).sum + 13 ≤ rm.locals) (hn : n0 ≤ rm.cells) (hk : k0 ≤ rm.slots) (hdg : decode cc pc = .ok (.invokestatic index, 3))
    (g : Z X (pc + 3) L (.int (if x < y then y else x) :: rest) G n0 k0) : Z X pc L (.int y :: .int x :: rest) G n0 k0 := by
  obtain ⟨p, l, e, R, s, m, args, below, meth, c, Q, D0, B0, nL⟩ := X
  obtain ⟨hx, hb, hml, hown, hts, -, -, -, -, -, -, rfl, rfl, rfl, rfl, -⟩ := C
  intro H locs ls hI hS hL
  exact va_mmax hx hb (hml.trans hL.2.1.symm) hown (hts _ h1) (hts _ h2) (hts _ h3) (hts _ h4) hf hl hn hk hdg (g H locs ls hI hS hL)
theorem z_mmin (C : Cx X D B own cc ret hh nm post px rm) {index : Nat} {x y : Int32} (h1 : Cond.methodLink own index Lib.Math.min.name ∈ lw_all) (h2 : Cond.static Lib.Math.min.name ∈ lw_all) (h3 : Cond.initialized "java/lang/Math" ∈ lw_all) (h4 : Cond.code Lib.Math.min.name Lib.Math.min.code 2 (some .int) ∈ lw_all) (hf : 1 ≤ rm.frames) (hl : (rest.map fun v => v.category).sum + 13 ≤ rm.locals) (hn : n0 ≤ rm.cells) (hk : k0 ≤ rm.slots) (hdg : decode cc pc = .ok (.invokestatic index, 3))
    (g : Z X (pc + 3) L (.int (if y < x then y else x) :: rest) G n0 k0) : Z X pc L (.int y :: .int x :: rest) G n0 k0 := by
  obtain ⟨p, l, e, R, s, m, args, below, meth, c, Q, D0, B0, nL⟩ := X
  obtain ⟨hx, hb, hml, hown, hts, -, -, -, -, -, -, rfl, rfl, rfl, rfl, -⟩ := C
  intro H locs ls hI hS hL
  exact va_mmin hx hb (hml.trans hL.2.1.symm) hown (hts _ h1) (hts _ h2) (hts _ h3) (hts _ h4) hf hl hn hk hdg (g H locs ls hI hS hL)
theorem z_mmaxL (C : Cx X D B own cc ret hh nm post px rm) {index : Nat} {x y : Int64} (h1 : Cond.methodLink own index Lib.MathLoose.max_long.x ∈ lw_all) (h2 : Cond.static Lib.MathLoose.max_long.x ∈ lw_all) (h3 : Cond.initialized "java/lang/Math" ∈ lw_all) (h4 : Cond.code Lib.MathLoose.max_long.x Lib.MathLoose.max_long.code 4 (some .long) ∈ lw_all) (hf : 1 ≤ rm.frames) (hl : (rest.map fun v => v.category).sum + 15 ≤ rm.locals) (hn : n0 ≤ rm.cells) (hk : k0 ≤ rm.slots) (hdg : decode cc pc = .ok (.invokestatic index, 3))
    (g : Z X (pc + 3) L (.long (if y < x then x else y) :: rest) G n0 k0) : Z X pc L (.long y :: .long x :: rest) G n0 k0 := by
  obtain ⟨p, l, e, R, s, m, args, below, meth, c, Q, D0, B0, nL⟩ := X
  obtain ⟨hx, hb, hml, hown, hts, -, -, -, -, -, -, rfl, rfl, rfl, rfl, -⟩ := C
  intro H locs ls hI hS hL
  exact va_mmax_long hx hb (hml.trans hL.2.1.symm) hown (hts _ h1) (hts _ h2) (hts _ h3) (hts _ h4) hf hl hn hk hdg (g H locs ls hI hS hL)
theorem z_mabsL (C : Cx X D B own cc ret hh nm post px rm) {index : Nat} {x : Int64} (h1 : Cond.methodLink own index Lib.MathLoose.abs_long.x ∈ lw_all) (h2 : Cond.static Lib.MathLoose.abs_long.x ∈ lw_all) (h3 : Cond.initialized "java/lang/Math" ∈ lw_all) (h4 : Cond.code Lib.MathLoose.abs_long.x Lib.MathLoose.abs_long.code 2 (some .long) ∈ lw_all) (hf : 1 ≤ rm.frames) (hl : (rest.map fun v => v.category).sum + 13 ≤ rm.locals) (hn : n0 ≤ rm.cells) (hk : k0 ≤ rm.slots) (hdg : decode cc pc = .ok (.invokestatic index, 3))
    (g : Z X (pc + 3) L (.long (if 0 < x then x else -x) :: rest) G n0 k0) : Z X pc L (.long x :: rest) G n0 k0 := by
  obtain ⟨p, l, e, R, s, m, args, below, meth, c, Q, D0, B0, nL⟩ := X
  obtain ⟨hx, hb, hml, hown, hts, -, -, -, -, -, -, rfl, rfl, rfl, rfl, -⟩ := C
  intro H locs ls hI hS hL
  exact va_mabs_long hx hb (hml.trans hL.2.1.symm) hown (hts _ h1) (hts _ h2) (hts _ h3) (hts _ h4) hf hl hn hk hdg (g H locs ls hI hS hL)
end ZR4
theorem np_floor : plainFor yJ12_floorDiv = true := by decide +kernel
