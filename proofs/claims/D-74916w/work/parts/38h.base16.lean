/-! calls of methods whose class isn't said to be initialised: the body is walked in place -/
def CtB (D : zG) (B : Nat) (y : MethodName) (cc : ByteArray) (maxL : Nat) (ret : Option FieldType) (rm : Room) (av : List Value) (G : zH) (post : Option Value → zH → Prop) : Prop :=
  ∀ X : zX, Cx X D B y.cls cc ret [] y.name post zno rm → Z X 0 (zentry maxL av) [] G 0 0
section ZIN
variable {p : Program} {l : Launch} {e : Env} {R : Room} {s : State} {sargs : Array Value} {below : List Frame} {D : zG} {B : Nat} {G : zH}
theorem zinl_back {y : MethodName} {cc : ByteArray} {maxL : Nat} {ret : Option FieldType} {rm : Room} {av : List Value} {post : Option Value → zH → Prop} {PX : Pt → Array Value → Addr → Pt → Prop} (hbody : CtB D B y cc maxL ret rm av G post) (hlen : (lg_sl av).length ≤ maxL) (hpn : plainName y.cls = true) (hcode : Cond.code y cc maxL ret ∈ lw_all)
    (hst : l.stackTraces = false) (hexec : p.tables.exec = Jvm.exec) (hts : ∀ w ∈ lw_all, w.before sargs s = true) (hR : rm.frames + 1 ≤ R.frames ∧ 8 + (maxL + 11) + rm.locals ≤ R.locals) :
    vx_Back l R p e below s sargs y 3 8 (PreOf R rm.cells rm.slots (va_Pc av (fun U => Wd D B U ∧ zI D B G U.heap))) (PostOf (zQ D B post) rm.cells rm.slots (zA B)) PX := by
  intro m meth c A g ig mk a X hg hsize hdg hW hn hp
  obtain ⟨U, Ls, c0, s0⟩ := A
  obtain ⟨h4, h5, rfl, hWd, hI⟩ := hp
  have X : Stand p l e R s m sargs below meth c U Ls c0 s0 := X
  have hn : U.methodNamed? y = some mk := hn
  have hWd : Wd D B U := hWd
  have hI : zI D B G U.heap := hI
  have hts' : ∀ w ∈ lw_all, w.before av.toArray (U.calling g mk av.toArray) = true := fun w h => word_at (U := U.calling g mk av.toArray) X.warmed (lw_self w h).2 (hts w h)
  obtain ⟨methY, cY, hmY, hcY, hbY, hlY, hrY, hkY, hxY, -⟩ := Cond.code_spec hn (word_at (a' := sargs) (U := U) X.warmed (lw_self _ hcode).2 (hts _ hcode))
  obtain ⟨kY, hkYc, hkYn⟩ := className_of_methodNamed hn
  have hnil : cY.exceptionTable.toList = tableOf [] := by
    have : cY.exceptionTable = #[] := by simpa using hxY
    rw [this]
    rfl
  obtain ⟨Y, hin⟩ := X.into hg hsize hdg av.toArray (R' := rm) hmY hcY hkY (State.plainMethod.of_name (fun k' hk' => by cases hkYc.symm.trans hk'; rw [hkYn]; exact hpn)) hR.1 (by have := hR.2; rw [hlY]; omega) h4 h5
  have key := hbody (p, l, e, rm, U.calling g mk av.toArray, mk, av.toArray, .java g :: below, methY, cY, vx_MQ (.java g :: below) (zQ D B post) (zQX D B zno) av.toArray (U.calling g mk av.toArray) rm.cells rm.slots (zA B), D, B, maxL)
    ⟨hexec, hbY, hlY, findClass_of_methodNamed hn, hts', hWd.same rfl rfl, hkY, hrY, (name_of_methodNamed hn hmY).1, hnil, hst, rfl, rfl, rfl, rfl, hI.1⟩
  obtain ⟨t, hsteps, o, hrun, hended, hq⟩ := key (U.calling g mk av.toArray).heap [] _ hI va_S.rf (zL_entry hlen) ((U.setTop g).pushFrame (.java (entryFrame mk av.toArray cY.maxLocals))) rfl Y
  rcases hq with ⟨hqc, L, hfe, hL⟩ | ⟨q, -, E, ce, L, ⟨⟨G9, h9, -⟩, -⟩, -⟩
  rotate_left
  · exact h9.elim
  obtain ⟨⟨v, rfl⟩, hW₂, hsm⟩ := id hfe
  obtain ⟨T', X', hW', -, ht⟩ := X.outOf hg hdg hended hW₂ hsm
  refine Or.inl ⟨v, ⟨T', Ls ++ L, c0 + rm.cells, s0 + rm.slots⟩, X', ⟨g, mk, t, L, (congrArg State.heap ht).symm, (congrArg State.vm ht).symm, hqc, rfl, hL, rfl, rfl⟩, ?_⟩
  show Steps p.tables e below (doInvoke e (U.setTop g) [] mk av.toArray).1 (T'.setTop { g with pc := g.pc + 3, stack := v.toList ++ g.stack })
  rw [← ht, hin []]
  have he : entryFrame mk av.toArray cY.maxLocals = F0 mk 0 ((lg_sl av ++ List.replicate (maxL - (lg_sl av).length) Slot.unset).toArray) [] := by rw [hlY]; exact lg_entry_eq _ _ _
  rw [he] at hsteps ⊢
  exact Steps.weaken (mid := [.java g]) hsteps
end ZIN
section ZIO
variable {X : zX} {D : zG} {B : Nat} {own : String} {cc : ByteArray} {ret : Option FieldType} {hh : List (Nat × Nat × Nat × Nat)} {nm : String} {post : Option Value → zH → Prop} {px : String → Nat → zH → Prop} {rm : Room} {pc : Nat} {L : zLs} {rest : List Value} {G : zH} {n0 k0 : Nat}
/-- a call of the i-th constant's method -/
theorem z_callOB (C : Cx X D B own cc ret hh nm post px rm) {x y : MethodName} {bytes : ByteArray} {maxL index np i : Nat} {ret' : Option FieldType} {rm' : Room} {As st0 : List Value} {post' : Option Value → zH → Prop} {owner : String} (hi : i < 5) (hM : CtB D B y bytes maxL ret' rm' (.ref (D.2.2.2 (40 + i)) :: As) G post')
    (h1 : Cond.methodLink own index x ∈ lw_all) (h6 : Cond.sameMethod x.cls owner x.name x.desc ∈ lw_all) (hdc : Cond.declares ⟨owner, x.name, x.desc⟩ ∈ lw_tbl) (h5 : Cond.selects (zMes.getD i "") x y ∈ lw_all) (h2 : Cond.instanceMethod y ∈ lw_all) (h4 : Cond.code y bytes maxL ret' ∈ lw_all)
    (hd : owner ≠ "java/lang/invoke/MethodHandle" ∧ owner ≠ "java/lang/invoke/VarHandle" ∧ (parseMethodDescriptor x.desc).map (fun d => d.parameters.length) = some np) (hlen : (lg_sl (.ref (D.2.2.2 (40 + i)) :: As)).length ≤ maxL) (hpn : plainName y.cls = true) (hR : zroom rm rm' maxL)
    (hst : st0 = As.reverse ++ .ref (D.2.2.2 (40 + i)) :: rest) (hn : As.length = np) (hw : (rest.map fun v => v.category).sum ≤ 8) (hf : n0 + rm'.cells ≤ rm.cells ∧ k0 + rm'.slots ≤ rm.slots) (hdg : decode cc pc = .ok (.invokevirtual index, 3))
    (kk : ∀ (v : Option Value) (G' : zH), post' v G' → Z X (pc + 3) L (v.toList ++ rest) G' (n0 + rm'.cells) (k0 + rm'.slots)) : Z X pc L st0 G n0 k0 := by
  obtain ⟨p, l, e, R, s, m, args, below, meth, c, Q, D0, B0, nL⟩ := X
  obtain ⟨hx, hb, hml, hown, hts, hW, -, -, -, -, hsl, rfl, rfl, rfl, rfl, -⟩ := C
  intro H locs ls hI hS hL
  refine zfin (mc := rm'.cells) (ms := rm'.slots) (a := (Value.ref (D0.2.2.2 (40 + i)) :: As).toArray) (post' := post') (px' := zno) (rest := rest) ?_ hS hL kk (fun _ _ _ h => False.elim h)
  have hK := zinl_back (p := p) (l := l) (e := e) (R := R) (s := s) (sargs := args) (below := below) (G := G) (PX := fun _ _ _ _ => False) hM hlen hpn h4 hsl hx hts hR
  have hr := va_Orecv (hW.2.2.2.2.2.2.2.2.2.2.2.2.1 i hi) hS
  obtain ⟨cellB, hcB, hoB, hclB⟩ := hr
  intro T hT XX
  rcases vx_callVU XX hx (C := zMes.getD i "") (owner := owner) (bytes := bytes) (maxL := maxL) (ret := ret') hown (hts _ h1) (hts _ h6) (va_Decl.abs (hW.2.1 _ hdc rfl)) ⟨hd.1, hd.2.1⟩ (hts _ h5) (hts _ h2) (hts _ h4) hK (by rw [hT]; exact hcB) hoB hclB (g := F0 m pc ls st0) rfl (hL.2.1.trans hml.symm) (argsL := As) (rest := rest) (fun sig h => by
      have h8 := hd.2.2
      rw [h] at h8
      exact hn.trans (Option.some.inj h8).symm) hst (lv_room hw) (by rw [hb]; exact hdg)
    (fun vm₁ hW₁ => ⟨hf.1, hf.2, zPre hW hS hI (T.setVm vm₁) hT hW₁⟩) with ⟨v, vm₁, ⟨U', l2, c2, s2⟩, hW₁, X', ⟨g', mk, t, L, e1, e2, hq, h1, hL, h2, h3⟩, st⟩ | ⟨q, vm₁, ⟨U', l2, c2, s2⟩, hW₁, X', hf9, st⟩
  · dsimp only [Pt.U, Pt.locs, Pt.cells, Pt.slots] at X' e1 e2 h1 h2 h3 st
    subst h1; subst h2; subst h3
    exact Or.inl ⟨v, (T.setVm vm₁).calling g' mk _, t, U', L, hT, X', hL, e1, e2, hq, st⟩
  · exact hf9.elim
end ZIO
