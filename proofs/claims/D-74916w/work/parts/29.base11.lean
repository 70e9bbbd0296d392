/-! rows: calls of all kinds, exceptions -/
theorem zmc {α : Type} {a : α} {l T : List α} (h : a ∈ T) (t : ∀ w ∈ l, w ∈ T) : ∀ w ∈ a :: l, w ∈ T := List.forall_mem_cons.mpr ⟨h, t⟩
theorem zmn {α : Type} {T : List α} : ∀ w ∈ ([] : List α), w ∈ T := fun _ h => absurd h List.not_mem_nil
theorem zeqL {α : Type} {L L' T : List α} (e : L = L') (h : ∀ w ∈ L', w ∈ T) : ∀ w ∈ L, w ∈ T := by rw [e]; exact h
/-- a contract from a walk of a body with handlers -/
theorem ct_introW {D : zG} {B : Nat} {y : MethodName} {rm : Room} {av : List Value} {G : zH} {post : Option Value → zH → Prop} {px : String → Nat → zH → Prop} {cc : ByteArray} {maxL : Nat} {ret : Option FieldType} {hh : List (Nat × Nat × Nat × Nat)} (hy : plainName y.cls = true) (hlen : (lg_sl av).length ≤ maxL)
    (body : ∀ X : zX, Cx X D B y.cls cc ret hh y.name post px rm → Z X 0 (zentry maxL av) [] G 0 0) : Ct D B y (wsW_ y cc maxL ret hh) rm av G post px := by
  intro l hst
  refine vx_ofWH (cc := cc) (maxL := maxL) (ret := ret) (hh := hh) hy rfl ?_
  intro p e s m args below meth c s₁ BL hml hv
  obtain ⟨rfl, hW, hI⟩ := hv
  have hts := atoms_spec (ws := wsW_ y cc maxL ret hh) BL.pre
  have htab : c.exceptionTable.toList = tableOf hh := vx_table (x := y) BL (hts _ List.mem_cons_self)
  have hts : ∀ w ∈ lw_all, w.before _ s = true := fun w h => hts w (List.mem_cons_of_mem _ h)
  have key := body (p, l, e, (headSpec (wsW_ y cc maxL ret hh) rm).room, s, m, av.toArray, below, meth, c, vx_MQ below (zQ D B post) (zQX D B px) av.toArray s rm.cells rm.slots (zA B), D, B, maxL)
    ⟨BL.exec, BL.bytes, hml, findClass_of_methodNamed BL.named, hts, hW, BL.notSynchronized, BL.returns, (name_of_methodNamed BL.named BL.method).1, htab, hst, rfl, rfl, rfl, rfl, hI.1⟩
  rw [lg_entry_eq]
  exact key s.heap [] _ hI va_S.rf (zL_entry hlen)
section ZR7
variable {X : zX} {D : zG} {B : Nat} {own : String} {cc : ByteArray} {ret : Option FieldType} {hh : List (Nat × Nat × Nat × Nat)} {nm : String} {post : Option Value → zH → Prop} {px : String → Nat → zH → Prop} {rm : Room} {pc : Nat} {L : zLs} {rest : List Value} {G : zH} {n0 k0 : Nat}
/-! exceptions -/
theorem zX_widen {st : List Value} {E : String} {q n1 k1 : Nat} (hn : n0 ≤ n1) (hk : k0 ≤ k1) (g : ZX X pc L st E q G n1 k1) : ZX X pc L st E q G n0 k0 := by
  obtain ⟨p, l, e, R, s, m, args, below, meth, c, Q, D0, B0, nL⟩ := X
  intro H locs ls ce hI hS hL h1 h2 h3
  exact vx_widen hn hk (g H locs ls ce hI hS hL h1 h2 h3)
/-- it goes on to the caller -/
theorem z_out (C : Cx X D B own cc ret [] nm post px rm) {st : List Value} {E : String} {q : Nat} (hp : px E q G) (h1 : n0 ≤ rm.cells) (h2 : k0 ≤ rm.slots) : ZX X pc L st E q G n0 k0 := by
  obtain ⟨p, l, e, R, s, m, args, below, meth, c, Q, D0, B0, nL⟩ := X
  obtain ⟨hx, hb, hml, hown, hts, hW, hlk, -, -, htab, -, rfl, rfl, rfl, rfl, -⟩ := C
  intro H locs ls ce hI hS hL hce hcv hcl
  exact vx_out (by rw [htab]; intro x hx; cases hx) hlk hce hcv hcl (fun t ht _ => ⟨⟨G, hp, by rw [ht]; exact hI⟩, hS.F ht⟩) hS.2.2 h1 h2
/-- past handlers of other classes -/
theorem z_outP (C : Cx X D B own cc ret hh nm post px rm) {st : List Value} {E : String} {q : Nat} (hpass : ∀ z ∈ tableOf hh, covers z pc = false ∨ (z.catchType ≠ 0 ∧ ∃ nme : String, Cond.classLink own z.catchType nme ∈ lw_all ∧ (E, nme) ∈ zNCs)) (hp : px E q G) (h1 : n0 ≤ rm.cells) (h2 : k0 ≤ rm.slots) : ZX X pc L st E q G n0 k0 := by
  obtain ⟨p, l, e, R, s, m, args, below, meth, c, Q, D0, B0, nL⟩ := X
  obtain ⟨hx, hb, hml, hown, hts, hW, hlk, -, -, htab, -, rfl, rfl, rfl, rfl, -⟩ := C
  intro H locs ls ce hI hS hL hce hcv hcl
  exact vx_outP hown hlk (by
    rw [htab]
    intro z hz
    rcases hpass z hz with h | ⟨h0, nme, h9, h8⟩
    · exact Or.inl h
    · exact Or.inr ⟨h0, nme, hts _ h9, hW.2.2.2.2.1 _ h8⟩) hce hcv hcl (fun t ht _ => ⟨⟨G, hp, by rw [ht]; exact hI⟩, hS.F ht⟩) hS.2.2 h1 h2
/-- caught -/
theorem z_catch (C : Cx X D B own cc ret hh nm post px rm) {st : List Value} {E name : String} {q : Nat} (pre : List ExceptionTableEntry) (x : ExceptionTableEntry) (suf : List ExceptionTableEntry) (hsplit : tableOf hh = pre ++ x :: suf)
    (hpass : ∀ z ∈ pre, covers z pc = false ∨ (z.catchType ≠ 0 ∧ ∃ nme : String, Cond.classLink own z.catchType nme ∈ lw_all ∧ (E, nme) ∈ zNCs)) (hcov : covers x pc = true) (h0 : x.catchType ≠ 0) (hl : Cond.classLink own x.catchType name ∈ lw_all) (hw : Cond.castable E name ∈ lw_tbl)
    (g : Z X x.handlerPc L [.ref q] G n0 k0) : ZX X pc L st E q G n0 k0 := by
  obtain ⟨p, l, e, R, s, m, args, below, meth, c, Q, D0, B0, nL⟩ := X
  obtain ⟨hx, hb, hml, hown, hts, hW, hlk, -, -, htab, -, rfl, rfl, rfl, rfl, -⟩ := C
  intro H locs ls ce hI hS hL hce hcv hcl
  exact vx_catch hown pre x suf (htab.trans hsplit) (fun z hz => by
    rcases hpass z hz with h | ⟨h0, nme, h9, h8⟩
    · exact Or.inl h
    · exact Or.inr ⟨h0, nme, hts _ h9, hW.2.2.2.2.1 _ h8⟩) hcov h0 (hts _ hl) (va_Nw.use rfl (hW.2.1 _ hw rfl)) hce hcv hcl (g H locs ls hI hS hL)
/-- an object of one of the classes is thrown -/
theorem z_athrow (C : Cx X D B own cc ret hh nm post px rm) {a ci N0 : Nat} {fs : List Value} {C0 : String} {T0 : u_T} (hg : G a = some (.inr (ci, fs))) (hc : zCL[ci]? = some (C0, T0, N0)) (hdg : decode cc pc = .ok (.athrow, 1)) (g : ZX X pc L rest C0 a G n0 k0) : Z X pc L (.ref a :: rest) G n0 k0 := by
  obtain ⟨p, l, e, R, s, m, args, below, meth, c, Q, D0, B0, nL⟩ := X
  obtain ⟨hx, hb, hml, hown, hts, hW, -, -, -, -, -, rfl, rfl, rfl, rfl, -⟩ := C
  intro H locs ls hI hS hL
  have hci : ci < 100 := Nat.lt_of_lt_of_le (List.getElem?_eq_some_iff.mp hc).1 (by decide)
  obtain ⟨r, g1, cell, q1, q2, q3, q4⟩ := zP1 (hI.at hg) hci 0 _ rfl
  cases g1.symm.trans hc
  exact vx_athrow hx hb hdg (g H locs ls cell hI hS hL q1 q3 (by rw [q2]; exact (hW.1.1 ci _ hc).2.1))
theorem zuse (C : Cx X D B own cc ret hh nm post px rm) : ∀ w ∈ lw_tbl, (goodWord w || zNwB w) = true → w.before X.2.2.2.2.2.2.1 X.2.2.2.2.1 = true := by
  obtain ⟨p, l, e, R, s, m, args, below, meth, c, Q, D0, B0, nL⟩ := X
  obtain ⟨hx, hb, hml, hown, hts, hW, -, -, -, -, -, rfl, rfl, rfl, rfl, -⟩ := C
  intro w hw h
  rcases Bool.or_eq_true_iff.mp h with h | h
  · exact hts _ (lw_g hw h)
  · exact va_Nw.use (zNwB_tab h) (hW.2.1 _ hw h)
/-- 'throw new E()' of a class of the JDK's -/
theorem z_throw0 (C : Cx X D B own cc ret [] nm post px rm) {cls : String} {names : List String} {ik ic : Nat} (hcls : Bundle.fit cls = true) (hnames : ∀ n ∈ names, Bundle.fit n = true) (hk : Cond.classLink own ik cls ∈ lw_all) (hini : Cond.initialized cls ∈ lw_all)
    (hat : ∀ w ∈ vx_at0 own ic cls names, w ∈ lw_tbl) (hgo : (vx_at0 own ic cls names).all (fun w => goodWord w || zNwB w) = true) (hgood : (Cond.classLink own ik cls :: Cond.initialized cls :: vx_at0 own ic cls names).all vx_ot = true)
    (d0 : decode cc pc = .ok (.new ik, 3)) (d3 : decode cc (pc + 3) = .ok (.dup, 1)) (d4 : decode cc (pc + 4) = .ok (.invokespecial ic, 3)) (d7 : decode cc (pc + 7) = .ok (.athrow, 1))
    (hfr : names.length + 3 < rm.frames) (hlo : (rest.map fun v => v.category).sum + (13 * (names.length + 1) + 42) ≤ rm.locals) (hc : n0 + 1 ≤ rm.cells) (hs : k0 + 6 ≤ rm.slots) (hp : ∀ q, px cls q G) : Z X pc L rest G n0 k0 := by
  have hu := zuse C
  obtain ⟨p, l, e, R, s, m, args, below, meth, c, Q, D0, B0, nL⟩ := X
  obtain ⟨hx, hb, hml, hown, hts, hW, hlk, -, -, htab, hsl, rfl, rfl, rfl, rfl, -⟩ := C
  intro H locs ls hI hS hL
  have hz : ∀ q ∈ zST, va_Z q.1 q.2.1 q.2.2.1 (zSv D0 q.2.2.2) (zA B0) s s.heap := hW.2.2.2.2.2.2.2.2.2.2.1
  have zq : ∀ {C9 n9 d9 : String} {k9 : Nat}, (C9, n9, d9, k9) ∈ zST → k9 ≠ 0 → va_Zq C9 n9 d9 (zA B0) s s.heap := fun {C9 n9 d9 k9} h h0 => by
    have h9 := hz _ h
    dsimp only at h9
    rcases zSv_rf D0 h0 with e9 | ⟨a9, e9⟩
    · rw [e9] at h9; exact Or.inl h9
    · rw [e9] at h9; exact Or.inr ⟨a9, h9⟩
  refine vx_throw0 hx hb hsl hown hcls hnames (hts _ hk) (hts _ hini) (fun w hw => hu w (hat w hw) (List.all_eq_true.mp hgo w hw)) (fun w hw => List.all_eq_true.mp hgood w hw)
    ⟨zq (k9 := 53) (by decide) (by decide), hW.2.2.2.2.2.2.2.2.2.2.2.2.2.2.2.2.1⟩ ⟨zq (k9 := 54) (by decide) (by decide), hW.2.2.2.2.2.2.2.2.2.2.2.2.2.2.2.2.2.1⟩ hS (by rw [hml]; exact hL.2.1) d0 d3 d4 d7 (by rw [htab]; intro x hx; cases hx) hfr hlo hc hs hlk
    (fun q t hA hz1 hz2 => ⟨⟨G, hp q, Nat.le_trans hI.1 hz1, fun a e h => ⟨(hI.2 a e h).1, (hI.2 a e h).2.kept (hz2 a (hI.2 a e h).2.lt)⟩⟩, Nat.le_trans hS.1 hz1, fun a h1 h2 => (hz2 a (Nat.lt_of_lt_of_le h1 hS.1)).trans (hS.2.1 a h1 h2)⟩) hS.2.2 hc hs
/-! calls -/
variable {x y : MethodName} {index np maxL : Nat} {bytes : ByteArray} {ret' : Option FieldType} {rm' : Room} {As st0 : List Value} {post' : Option Value → zH → Prop} {px' : String → Nat → zH → Prop}
theorem z_callSX (C : Cx X D B own cc ret hh nm post px rm) {hh' : List (Nat × Nat × Nat × Nat)} (hM : Ct D B y (wsW_ y bytes maxL ret' hh') rm' As G post' px')
    (h1 : Cond.methodLink own index y ∈ lw_all) (h2 : Cond.static y ∈ lw_all) (h3 : Cond.initialized y.cls ∈ lw_all) (h4 : Cond.codeWith y bytes maxL ret' hh' ∈ lw_all) (hd : znp y np) (hR : zroom rm rm' maxL)
    (hst : st0 = As.reverse ++ rest) (hn : As.length = np) (hw : (rest.map fun v => v.category).sum ≤ 8) (hf : n0 + rm'.cells ≤ rm.cells ∧ k0 + rm'.slots ≤ rm.slots) (hdg : decode cc pc = .ok (.invokestatic index, 3))
    (kx : ∀ (E : String) (q : Nat) (G' : zH), px' E q G' → ZX X pc L rest E q G' (n0 + rm'.cells) (k0 + rm'.slots))
    (kk : ∀ (v : Option Value) (G' : zH), post' v G' → Z X (pc + 3) L (v.toList ++ rest) G' (n0 + rm'.cells) (k0 + rm'.slots)) : Z X pc L st0 G n0 k0 := by
  obtain ⟨p, l, e, R, s, m, args, below, meth, c, Q, D0, B0, nL⟩ := X
  obtain ⟨hx, hb, hml, hown, hts, hW, -, -, -, -, hsl, rfl, rfl, rfl, rfl, -⟩ := C
  intro H locs ls hI hS hL
  exact zfin (vx_runSX (As := As) (rest := rest) ⟨hx, hb, hml, hown, hts⟩ (hM l hsl) (vx_cwSW np hts (lw_SW h1 h2 h3 h4) rfl rfl rfl hd hR) ⟨zPc_blind, zPre hW hS hI⟩ rfl hn hL.2.1 hst (lv_room hw) hdg hf) hS hL kk kx
theorem z_callVX (C : Cx X D B own cc ret hh nm post px rm) {hh' : List (Nat × Nat × Nat × Nat)} {b ci : Nat} {fs : List Value} {T0 : u_T} {N0 : Nat} (hg : G b = some (.inr (ci, fs))) (hc : zCL[ci]? = some (y.cls, T0, N0)) (hM : Ct D B y (wsW_ y bytes maxL ret' hh') rm' (.ref b :: As) G post' px')
    (h1 : Cond.methodLink own index y ∈ lw_all) (h2 : Cond.instanceMethod y ∈ lw_all) (h5 : Cond.selects y.cls y y ∈ lw_all) (h3 : Cond.initialized y.cls ∈ lw_all) (h4 : Cond.codeWith y bytes maxL ret' hh' ∈ lw_all) (hd : znp y np) (hR : zroom rm rm' maxL)
    (hst : st0 = As.reverse ++ .ref b :: rest) (hn : As.length = np) (hw : (rest.map fun v => v.category).sum ≤ 8) (hf : n0 + rm'.cells ≤ rm.cells ∧ k0 + rm'.slots ≤ rm.slots) (hdg : decode cc pc = .ok (.invokevirtual index, 3))
    (kx : ∀ (E : String) (q : Nat) (G' : zH), px' E q G' → ZX X pc L rest E q G' (n0 + rm'.cells) (k0 + rm'.slots))
    (kk : ∀ (v : Option Value) (G' : zH), post' v G' → Z X (pc + 3) L (v.toList ++ rest) G' (n0 + rm'.cells) (k0 + rm'.slots)) : Z X pc L st0 G n0 k0 := by
  obtain ⟨p, l, e, R, s, m, args, below, meth, c, Q, D0, B0, nL⟩ := X
  obtain ⟨hx, hb, hml, hown, hts, hW, -, -, -, -, hsl, rfl, rfl, rfl, rfl, -⟩ := C
  intro H locs ls hI hS hL
  exact zfin (vx_runVX (C := y.cls) (As := As) (rest := rest) ⟨hx, hb, hml, hown, hts⟩ (hM l hsl) (vx_cwVW np hts (lw_VW h1 h2 h5 h3 h4) rfl rfl rfl ⟨rfl, hd⟩ hR) ⟨zPc_blind, zrcv hW.1 (hI.at hg) hc, zPre hW hS hI⟩ rfl hn hL.2.1 hst (lv_room hw) hdg hf) hS hL kk kx
/-- a call through an interface -/
theorem z_callF (C : Cx X D B own cc ret hh nm post px rm) {b ci count : Nat} {fs : List Value} {C0 : String} {T0 : u_T} {N0 : Nat} (hg : G b = some (.inr (ci, fs))) (hc : zCL[ci]? = some (C0, T0, N0)) (hF : (C0, x, y) ∈ zFWs) (hM : Ct D B y (ws_ y bytes maxL ret') rm' (.ref b :: As) G post' px')
    (h1 : Cond.methodLink own index x ∈ lw_all) (h5 : Cond.selects C0 x y ∈ lw_all) (h2 : Cond.instanceMethod y ∈ lw_all) (h3 : Cond.initialized y.cls ∈ lw_all) (h4 : Cond.code y bytes maxL ret' ∈ lw_all) (hd : znp x np) (hR : zroom rm rm' maxL)
    (hst : st0 = As.reverse ++ .ref b :: rest) (hn : As.length = np) (hw : (rest.map fun v => v.category).sum ≤ 8) (hf : n0 + rm'.cells ≤ rm.cells ∧ k0 + rm'.slots ≤ rm.slots) (hdg : decode cc pc = .ok (.invokeinterface index count, 5))
    (kx : ∀ (E : String) (q : Nat) (G' : zH), px' E q G' → ZX X pc L rest E q G' (n0 + rm'.cells) (k0 + rm'.slots))
    (kk : ∀ (v : Option Value) (G' : zH), post' v G' → Z X (pc + 5) L (v.toList ++ rest) G' (n0 + rm'.cells) (k0 + rm'.slots)) : Z X pc L st0 G n0 k0 := by
  obtain ⟨p, l, e, R, s, m, args, below, meth, c, Q, D0, B0, nL⟩ := X
  obtain ⟨hx, hb, hml, hown, hts, hW, -, -, -, -, hsl, rfl, rfl, rfl, rfl, -⟩ := C
  intro H locs ls hI hS hL
  exact zfin5 (vx_runF (C := C0) (x := x) (As := As) (rest := rest) (hW.1.1 ci _ hc).2 ⟨hx, hb, hml, hown, hts⟩ (hM l hsl) (va_cwF np hts (lw_app (zmc h1 (zmc h5 (zmc h2 (zmc h3 zmn)))) (lw_meth h4)) rfl rfl rfl (hW.2.2.2.1 _ hF) hd hR) ⟨zPc_blind, zrcv hW.1 (hI.at hg) hc, zPre hW hS hI⟩ rfl hn hL.2.1 hst (lv_room hw) hdg hf) hS hL kk kx
/-- a call whose named method is abstract: of one of the enum's constants -/
theorem z_callO (C : Cx X D B own cc ret hh nm post px rm) {i : Nat} {owner : String} (hi : i < 5) (hM : Ct D B y (ws_ y bytes maxL ret') rm' (.ref (D.2.2.2 (40 + i)) :: As) G post' px')
    (h1 : Cond.methodLink own index x ∈ lw_all) (h6 : Cond.sameMethod x.cls owner x.name x.desc ∈ lw_all) (hdc : Cond.declares ⟨owner, x.name, x.desc⟩ ∈ lw_tbl) (h5 : Cond.selects (zMes.getD i "") x y ∈ lw_all) (h2 : Cond.instanceMethod y ∈ lw_all) (h3 : Cond.initialized y.cls ∈ lw_all) (h4 : Cond.code y bytes maxL ret' ∈ lw_all)
    (hd : owner ≠ "java/lang/invoke/MethodHandle" ∧ owner ≠ "java/lang/invoke/VarHandle" ∧ (parseMethodDescriptor x.desc).map (fun d => d.parameters.length) = some np) (hR : zroom rm rm' maxL)
    (hst : st0 = As.reverse ++ .ref (D.2.2.2 (40 + i)) :: rest) (hn : As.length = np) (hw : (rest.map fun v => v.category).sum ≤ 8) (hf : n0 + rm'.cells ≤ rm.cells ∧ k0 + rm'.slots ≤ rm.slots) (hdg : decode cc pc = .ok (.invokevirtual index, 3))
    (kx : ∀ (E : String) (q : Nat) (G' : zH), px' E q G' → ZX X pc L rest E q G' (n0 + rm'.cells) (k0 + rm'.slots))
    (kk : ∀ (v : Option Value) (G' : zH), post' v G' → Z X (pc + 3) L (v.toList ++ rest) G' (n0 + rm'.cells) (k0 + rm'.slots)) : Z X pc L st0 G n0 k0 := by
  obtain ⟨p, l, e, R, s, m, args, below, meth, c, Q, D0, B0, nL⟩ := X
  obtain ⟨hx, hb, hml, hown, hts, hW, -, -, -, -, hsl, rfl, rfl, rfl, rfl, -⟩ := C
  intro H locs ls hI hS hL
  exact zfin (vx_runU (C := zMes.getD i "") (owner := owner) (x := x) (As := As) (rest := rest) ⟨hx, hb, hml, hown, hts⟩ (hM l hsl) (va_cwA np hts (lw_app (zmc h1 (zmc h6 (zmc h5 (zmc h2 (zmc h3 zmn))))) (lw_meth h4)) rfl rfl rfl (hW.2.1 _ hdc rfl) hd hR) ⟨zPc_blind, va_Orecv (hW.2.2.2.2.2.2.2.2.2.2.2.2.1 i hi) hS, zPre hW hS hI⟩ rfl hn hL.2.1 hst (lv_room hw) hdg hf) hS hL kk kx
/-- .. of an object -/
theorem z_callA (C : Cx X D B own cc ret hh nm post px rm) {b ci : Nat} {fs : List Value} {C0 owner : String} {T0 : u_T} {N0 : Nat} (hg : G b = some (.inr (ci, fs))) (hc : zCL[ci]? = some (C0, T0, N0)) (hM : Ct D B y (ws_ y bytes maxL ret') rm' (.ref b :: As) G post' px')
    (h1 : Cond.methodLink own index x ∈ lw_all) (h6 : Cond.sameMethod x.cls owner x.name x.desc ∈ lw_all) (hdc : Cond.declares ⟨owner, x.name, x.desc⟩ ∈ lw_tbl) (h5 : Cond.selects C0 x y ∈ lw_all) (h2 : Cond.instanceMethod y ∈ lw_all) (h3 : Cond.initialized y.cls ∈ lw_all) (h4 : Cond.code y bytes maxL ret' ∈ lw_all)
    (hd : owner ≠ "java/lang/invoke/MethodHandle" ∧ owner ≠ "java/lang/invoke/VarHandle" ∧ (parseMethodDescriptor x.desc).map (fun d => d.parameters.length) = some np) (hR : zroom rm rm' maxL)
    (hst : st0 = As.reverse ++ .ref b :: rest) (hn : As.length = np) (hw : (rest.map fun v => v.category).sum ≤ 8) (hf : n0 + rm'.cells ≤ rm.cells ∧ k0 + rm'.slots ≤ rm.slots) (hdg : decode cc pc = .ok (.invokevirtual index, 3))
    (kx : ∀ (E : String) (q : Nat) (G' : zH), px' E q G' → ZX X pc L rest E q G' (n0 + rm'.cells) (k0 + rm'.slots))
    (kk : ∀ (v : Option Value) (G' : zH), post' v G' → Z X (pc + 3) L (v.toList ++ rest) G' (n0 + rm'.cells) (k0 + rm'.slots)) : Z X pc L st0 G n0 k0 := by
  obtain ⟨p, l, e, R, s, m, args, below, meth, c, Q, D0, B0, nL⟩ := X
  obtain ⟨hx, hb, hml, hown, hts, hW, -, -, -, -, hsl, rfl, rfl, rfl, rfl, -⟩ := C
  intro H locs ls hI hS hL
  exact zfin (vx_runU (C := C0) (owner := owner) (x := x) (As := As) (rest := rest) ⟨hx, hb, hml, hown, hts⟩ (hM l hsl) (va_cwA np hts (lw_app (zmc h1 (zmc h6 (zmc h5 (zmc h2 (zmc h3 zmn))))) (lw_meth h4)) rfl rfl rfl (hW.2.1 _ hdc rfl) hd hR) ⟨zPc_blind, zrcv hW.1 (hI.at hg) hc, zPre hW hS hI⟩ rfl hn hL.2.1 hst (lv_room hw) hdg hf) hS hL kk kx
/-- a call of an inherited method -/
theorem z_callU (C : Cx X D B own cc ret hh nm post px rm) {b ci : Nat} {fs : List Value} {C0 owner : String} {T0 : u_T} {N0 : Nat} (hg : G b = some (.inr (ci, fs))) (hc : zCL[ci]? = some (C0, T0, N0)) (hyx : y = ⟨owner, x.name, x.desc⟩) (hM : Ct D B y (ws_ y bytes maxL ret') rm' (.ref b :: As) G post' px')
    (h1 : Cond.methodLink own index x ∈ lw_all) (h6 : Cond.sameMethod x.cls owner x.name x.desc ∈ lw_all) (h5 : Cond.selects C0 x y ∈ lw_all) (h2 : Cond.instanceMethod y ∈ lw_all) (h3 : Cond.initialized y.cls ∈ lw_all) (h4 : Cond.code y bytes maxL ret' ∈ lw_all)
    (hd : owner ≠ "java/lang/invoke/MethodHandle" ∧ owner ≠ "java/lang/invoke/VarHandle" ∧ (parseMethodDescriptor x.desc).map (fun d => d.parameters.length) = some np) (hR : zroom rm rm' maxL)
    (hst : st0 = As.reverse ++ .ref b :: rest) (hn : As.length = np) (hw : (rest.map fun v => v.category).sum ≤ 8) (hf : n0 + rm'.cells ≤ rm.cells ∧ k0 + rm'.slots ≤ rm.slots) (hdg : decode cc pc = .ok (.invokevirtual index, 3))
    (kx : ∀ (E : String) (q : Nat) (G' : zH), px' E q G' → ZX X pc L rest E q G' (n0 + rm'.cells) (k0 + rm'.slots))
    (kk : ∀ (v : Option Value) (G' : zH), post' v G' → Z X (pc + 3) L (v.toList ++ rest) G' (n0 + rm'.cells) (k0 + rm'.slots)) : Z X pc L st0 G n0 k0 := by
  obtain ⟨p, l, e, R, s, m, args, below, meth, c, Q, D0, B0, nL⟩ := X
  obtain ⟨hx, hb, hml, hown, hts, hW, -, -, -, -, hsl, rfl, rfl, rfl, rfl, -⟩ := C
  intro H locs ls hI hS hL
  exact zfin (vx_runU (C := C0) (owner := owner) (x := x) (As := As) (rest := rest) ⟨hx, hb, hml, hown, hts⟩ (hM l hsl) (va_cwU np hts (lw_app (zmc h1 (zmc h6 (zmc h5 (zmc h2 (zmc h3 zmn))))) (lw_meth h4)) rfl rfl rfl hyx hd hR) ⟨zPc_blind, zrcv hW.1 (hI.at hg) hc, zPre hW hS hI⟩ rfl hn hL.2.1 hst (lv_room hw) hdg hf) hS hL kk kx
/-- a call of a superclass' method by super -/
theorem z_callSU (C : Cx X D B own cc ret hh nm post px rm) {b ci : Nat} {fs : List Value} {C0 : String} {T0 : u_T} {N0 : Nat} (hg : G b = some (.inr (ci, fs))) (hc : zCL[ci]? = some (C0, T0, N0)) (hM : Ct D B y (ws_ y bytes maxL ret') rm' (.ref b :: As) G post' px')
    (h1 : Cond.methodLink own index y ∈ lw_all) (h6 : Cond.sameMethod y.cls y.cls y.name y.desc ∈ lw_all) (h5 : Cond.superclass own y.cls ∈ lw_all) (h2 : Cond.instanceMethod y ∈ lw_all) (h3 : Cond.initialized y.cls ∈ lw_all) (h4 : Cond.code y bytes maxL ret' ∈ lw_all)
    (hd : y.name ≠ "<init>" ∧ (parseMethodDescriptor y.desc).map (fun d => d.parameters.length) = some np) (hR : zroom rm rm' maxL)
    (hst : st0 = As.reverse ++ .ref b :: rest) (hn : As.length = np) (hw : (rest.map fun v => v.category).sum ≤ 8) (hf : n0 + rm'.cells ≤ rm.cells ∧ k0 + rm'.slots ≤ rm.slots) (hdg : decode cc pc = .ok (.invokespecial index, 3))
    (kx : ∀ (E : String) (q : Nat) (G' : zH), px' E q G' → ZX X pc L rest E q G' (n0 + rm'.cells) (k0 + rm'.slots))
    (kk : ∀ (v : Option Value) (G' : zH), post' v G' → Z X (pc + 3) L (v.toList ++ rest) G' (n0 + rm'.cells) (k0 + rm'.slots)) : Z X pc L st0 G n0 k0 := by
  obtain ⟨p, l, e, R, s, m, args, below, meth, c, Q, D0, B0, nL⟩ := X
  obtain ⟨hx, hb, hml, hown, hts, hW, -, -, -, -, hsl, rfl, rfl, rfl, rfl, -⟩ := C
  intro H locs ls hI hS hL
  exact zfin (vx_runSU (C := C0) (As := As) (rest := rest) (hW.1.1 ci _ hc).2 ⟨hx, hb, hml, hown, hts⟩ (hM l hsl) (va_cwSU np hts (lw_app (zmc h1 (zmc h6 (zmc h5 (zmc h2 (zmc h3 zmn))))) (lw_meth h4)) rfl rfl rfl hd hR) ⟨zPc_blind, zrcv hW.1 (hI.at hg) hc, zPre hW hS hI⟩ rfl hn hL.2.1 hst (lv_room hw) hdg hf) hS hL kk kx
theorem z_callSXn (C : Cx X D B own cc ret hh nm post px rm) {hh' : List (Nat × Nat × Nat × Nat)} (hM : Ct D B y (wsW_ y bytes maxL ret' hh') rm' As G post' zno)
    (h1 : Cond.methodLink own index y ∈ lw_all) (h2 : Cond.static y ∈ lw_all) (h3 : Cond.initialized y.cls ∈ lw_all) (h4 : Cond.codeWith y bytes maxL ret' hh' ∈ lw_all) (hd : znp y np) (hR : zroom rm rm' maxL)
    (hst : st0 = As.reverse ++ rest) (hn : As.length = np) (hw : (rest.map fun v => v.category).sum ≤ 8) (hf : n0 + rm'.cells ≤ rm.cells ∧ k0 + rm'.slots ≤ rm.slots) (hdg : decode cc pc = .ok (.invokestatic index, 3))
    (kk : ∀ (v : Option Value) (G' : zH), post' v G' → Z X (pc + 3) L (v.toList ++ rest) G' (n0 + rm'.cells) (k0 + rm'.slots)) : Z X pc L st0 G n0 k0 :=
  z_callSX C hM h1 h2 h3 h4 hd hR hst hn hw hf hdg (fun _ _ _ h => False.elim h) kk
theorem z_callSXe {w : Option Value} {G1 : zH} (C : Cx X D B own cc ret hh nm post px rm) {hh' : List (Nat × Nat × Nat × Nat)} (hM : Ct D B y (wsW_ y bytes maxL ret' hh') rm' As G (zpe w G1) zno)
    (h1 : Cond.methodLink own index y ∈ lw_all) (h2 : Cond.static y ∈ lw_all) (h3 : Cond.initialized y.cls ∈ lw_all) (h4 : Cond.codeWith y bytes maxL ret' hh' ∈ lw_all) (hd : znp y np) (hR : zroom rm rm' maxL)
    (hst : st0 = As.reverse ++ rest) (hn : As.length = np) (hw : (rest.map fun v => v.category).sum ≤ 8) (hf : n0 + rm'.cells ≤ rm.cells ∧ k0 + rm'.slots ≤ rm.slots) (hdg : decode cc pc = .ok (.invokestatic index, 3))
    (g : Z X (pc + 3) L (w.toList ++ rest) G1 (n0 + rm'.cells) (k0 + rm'.slots)) : Z X pc L st0 G n0 k0 :=
  z_callSX C hM h1 h2 h3 h4 hd hR hst hn hw hf hdg (fun _ _ _ h => False.elim h) (fun v G' h => by obtain ⟨rfl, rfl⟩ := h; exact g)
theorem z_callVXn (C : Cx X D B own cc ret hh nm post px rm) {hh' : List (Nat × Nat × Nat × Nat)} {b ci : Nat} {fs : List Value} {T0 : u_T} {N0 : Nat} (hg : G b = some (.inr (ci, fs))) (hc : zCL[ci]? = some (y.cls, T0, N0)) (hM : Ct D B y (wsW_ y bytes maxL ret' hh') rm' (.ref b :: As) G post' zno)
    (h1 : Cond.methodLink own index y ∈ lw_all) (h2 : Cond.instanceMethod y ∈ lw_all) (h5 : Cond.selects y.cls y y ∈ lw_all) (h3 : Cond.initialized y.cls ∈ lw_all) (h4 : Cond.codeWith y bytes maxL ret' hh' ∈ lw_all) (hd : znp y np) (hR : zroom rm rm' maxL)
    (hst : st0 = As.reverse ++ .ref b :: rest) (hn : As.length = np) (hw : (rest.map fun v => v.category).sum ≤ 8) (hf : n0 + rm'.cells ≤ rm.cells ∧ k0 + rm'.slots ≤ rm.slots) (hdg : decode cc pc = .ok (.invokevirtual index, 3))
    (kk : ∀ (v : Option Value) (G' : zH), post' v G' → Z X (pc + 3) L (v.toList ++ rest) G' (n0 + rm'.cells) (k0 + rm'.slots)) : Z X pc L st0 G n0 k0 :=
  z_callVX C hg hc hM h1 h2 h5 h3 h4 hd hR hst hn hw hf hdg (fun _ _ _ h => False.elim h) kk
theorem z_callVXe {w : Option Value} {G1 : zH} (C : Cx X D B own cc ret hh nm post px rm) {hh' : List (Nat × Nat × Nat × Nat)} {b ci : Nat} {fs : List Value} {T0 : u_T} {N0 : Nat} (hg : G b = some (.inr (ci, fs))) (hc : zCL[ci]? = some (y.cls, T0, N0)) (hM : Ct D B y (wsW_ y bytes maxL ret' hh') rm' (.ref b :: As) G (zpe w G1) zno)
    (h1 : Cond.methodLink own index y ∈ lw_all) (h2 : Cond.instanceMethod y ∈ lw_all) (h5 : Cond.selects y.cls y y ∈ lw_all) (h3 : Cond.initialized y.cls ∈ lw_all) (h4 : Cond.codeWith y bytes maxL ret' hh' ∈ lw_all) (hd : znp y np) (hR : zroom rm rm' maxL)
    (hst : st0 = As.reverse ++ .ref b :: rest) (hn : As.length = np) (hw : (rest.map fun v => v.category).sum ≤ 8) (hf : n0 + rm'.cells ≤ rm.cells ∧ k0 + rm'.slots ≤ rm.slots) (hdg : decode cc pc = .ok (.invokevirtual index, 3))
    (g : Z X (pc + 3) L (w.toList ++ rest) G1 (n0 + rm'.cells) (k0 + rm'.slots)) : Z X pc L st0 G n0 k0 :=
  z_callVX C hg hc hM h1 h2 h5 h3 h4 hd hR hst hn hw hf hdg (fun _ _ _ h => False.elim h) (fun v G' h => by obtain ⟨rfl, rfl⟩ := h; exact g)
theorem z_callFn (C : Cx X D B own cc ret hh nm post px rm) {b ci count : Nat} {fs : List Value} {C0 : String} {T0 : u_T} {N0 : Nat} (hg : G b = some (.inr (ci, fs))) (hc : zCL[ci]? = some (C0, T0, N0)) (hF : (C0, x, y) ∈ zFWs) (hM : Ct D B y (ws_ y bytes maxL ret') rm' (.ref b :: As) G post' zno)
    (h1 : Cond.methodLink own index x ∈ lw_all) (h5 : Cond.selects C0 x y ∈ lw_all) (h2 : Cond.instanceMethod y ∈ lw_all) (h3 : Cond.initialized y.cls ∈ lw_all) (h4 : Cond.code y bytes maxL ret' ∈ lw_all) (hd : znp x np) (hR : zroom rm rm' maxL)
    (hst : st0 = As.reverse ++ .ref b :: rest) (hn : As.length = np) (hw : (rest.map fun v => v.category).sum ≤ 8) (hf : n0 + rm'.cells ≤ rm.cells ∧ k0 + rm'.slots ≤ rm.slots) (hdg : decode cc pc = .ok (.invokeinterface index count, 5))
    (kk : ∀ (v : Option Value) (G' : zH), post' v G' → Z X (pc + 5) L (v.toList ++ rest) G' (n0 + rm'.cells) (k0 + rm'.slots)) : Z X pc L st0 G n0 k0 :=
  z_callF C hg hc hF hM h1 h5 h2 h3 h4 hd hR hst hn hw hf hdg (fun _ _ _ h => False.elim h) kk
theorem z_callFe {w : Option Value} {G1 : zH} (C : Cx X D B own cc ret hh nm post px rm) {b ci count : Nat} {fs : List Value} {C0 : String} {T0 : u_T} {N0 : Nat} (hg : G b = some (.inr (ci, fs))) (hc : zCL[ci]? = some (C0, T0, N0)) (hF : (C0, x, y) ∈ zFWs) (hM : Ct D B y (ws_ y bytes maxL ret') rm' (.ref b :: As) G (zpe w G1) zno)
    (h1 : Cond.methodLink own index x ∈ lw_all) (h5 : Cond.selects C0 x y ∈ lw_all) (h2 : Cond.instanceMethod y ∈ lw_all) (h3 : Cond.initialized y.cls ∈ lw_all) (h4 : Cond.code y bytes maxL ret' ∈ lw_all) (hd : znp x np) (hR : zroom rm rm' maxL)
    (hst : st0 = As.reverse ++ .ref b :: rest) (hn : As.length = np) (hw : (rest.map fun v => v.category).sum ≤ 8) (hf : n0 + rm'.cells ≤ rm.cells ∧ k0 + rm'.slots ≤ rm.slots) (hdg : decode cc pc = .ok (.invokeinterface index count, 5))
    (g : Z X (pc + 5) L (w.toList ++ rest) G1 (n0 + rm'.cells) (k0 + rm'.slots)) : Z X pc L st0 G n0 k0 :=
  z_callF C hg hc hF hM h1 h5 h2 h3 h4 hd hR hst hn hw hf hdg (fun _ _ _ h => False.elim h) (fun v G' h => by obtain ⟨rfl, rfl⟩ := h; exact g)
theorem z_callOn (C : Cx X D B own cc ret hh nm post px rm) {i : Nat} {owner : String} (hi : i < 5) (hM : Ct D B y (ws_ y bytes maxL ret') rm' (.ref (D.2.2.2 (40 + i)) :: As) G post' zno)
    (h1 : Cond.methodLink own index x ∈ lw_all) (h6 : Cond.sameMethod x.cls owner x.name x.desc ∈ lw_all) (hdc : Cond.declares ⟨owner, x.name, x.desc⟩ ∈ lw_tbl) (h5 : Cond.selects (zMes.getD i "") x y ∈ lw_all) (h2 : Cond.instanceMethod y ∈ lw_all) (h3 : Cond.initialized y.cls ∈ lw_all) (h4 : Cond.code y bytes maxL ret' ∈ lw_all)
    (hd : owner ≠ "java/lang/invoke/MethodHandle" ∧ owner ≠ "java/lang/invoke/VarHandle" ∧ (parseMethodDescriptor x.desc).map (fun d => d.parameters.length) = some np) (hR : zroom rm rm' maxL)
    (hst : st0 = As.reverse ++ .ref (D.2.2.2 (40 + i)) :: rest) (hn : As.length = np) (hw : (rest.map fun v => v.category).sum ≤ 8) (hf : n0 + rm'.cells ≤ rm.cells ∧ k0 + rm'.slots ≤ rm.slots) (hdg : decode cc pc = .ok (.invokevirtual index, 3))
    (kk : ∀ (v : Option Value) (G' : zH), post' v G' → Z X (pc + 3) L (v.toList ++ rest) G' (n0 + rm'.cells) (k0 + rm'.slots)) : Z X pc L st0 G n0 k0 :=
  z_callO C hi hM h1 h6 hdc h5 h2 h3 h4 hd hR hst hn hw hf hdg (fun _ _ _ h => False.elim h) kk
theorem z_callOe {w : Option Value} {G1 : zH} (C : Cx X D B own cc ret hh nm post px rm) {i : Nat} {owner : String} (hi : i < 5) (hM : Ct D B y (ws_ y bytes maxL ret') rm' (.ref (D.2.2.2 (40 + i)) :: As) G (zpe w G1) zno)
    (h1 : Cond.methodLink own index x ∈ lw_all) (h6 : Cond.sameMethod x.cls owner x.name x.desc ∈ lw_all) (hdc : Cond.declares ⟨owner, x.name, x.desc⟩ ∈ lw_tbl) (h5 : Cond.selects (zMes.getD i "") x y ∈ lw_all) (h2 : Cond.instanceMethod y ∈ lw_all) (h3 : Cond.initialized y.cls ∈ lw_all) (h4 : Cond.code y bytes maxL ret' ∈ lw_all)
    (hd : owner ≠ "java/lang/invoke/MethodHandle" ∧ owner ≠ "java/lang/invoke/VarHandle" ∧ (parseMethodDescriptor x.desc).map (fun d => d.parameters.length) = some np) (hR : zroom rm rm' maxL)
    (hst : st0 = As.reverse ++ .ref (D.2.2.2 (40 + i)) :: rest) (hn : As.length = np) (hw : (rest.map fun v => v.category).sum ≤ 8) (hf : n0 + rm'.cells ≤ rm.cells ∧ k0 + rm'.slots ≤ rm.slots) (hdg : decode cc pc = .ok (.invokevirtual index, 3))
    (g : Z X (pc + 3) L (w.toList ++ rest) G1 (n0 + rm'.cells) (k0 + rm'.slots)) : Z X pc L st0 G n0 k0 :=
  z_callO C hi hM h1 h6 hdc h5 h2 h3 h4 hd hR hst hn hw hf hdg (fun _ _ _ h => False.elim h) (fun v G' h => by obtain ⟨rfl, rfl⟩ := h; exact g)
theorem z_callAn (C : Cx X D B own cc ret hh nm post px rm) {b ci : Nat} {fs : List Value} {C0 owner : String} {T0 : u_T} {N0 : Nat} (hg : G b = some (.inr (ci, fs))) (hc : zCL[ci]? = some (C0, T0, N0)) (hM : Ct D B y (ws_ y bytes maxL ret') rm' (.ref b :: As) G post' zno)
    (h1 : Cond.methodLink own index x ∈ lw_all) (h6 : Cond.sameMethod x.cls owner x.name x.desc ∈ lw_all) (hdc : Cond.declares ⟨owner, x.name, x.desc⟩ ∈ lw_tbl) (h5 : Cond.selects C0 x y ∈ lw_all) (h2 : Cond.instanceMethod y ∈ lw_all) (h3 : Cond.initialized y.cls ∈ lw_all) (h4 : Cond.code y bytes maxL ret' ∈ lw_all)
    (hd : owner ≠ "java/lang/invoke/MethodHandle" ∧ owner ≠ "java/lang/invoke/VarHandle" ∧ (parseMethodDescriptor x.desc).map (fun d => d.parameters.length) = some np) (hR : zroom rm rm' maxL)
    (hst : st0 = As.reverse ++ .ref b :: rest) (hn : As.length = np) (hw : (rest.map fun v => v.category).sum ≤ 8) (hf : n0 + rm'.cells ≤ rm.cells ∧ k0 + rm'.slots ≤ rm.slots) (hdg : decode cc pc = .ok (.invokevirtual index, 3))
    (kk : ∀ (v : Option Value) (G' : zH), post' v G' → Z X (pc + 3) L (v.toList ++ rest) G' (n0 + rm'.cells) (k0 + rm'.slots)) : Z X pc L st0 G n0 k0 :=
  z_callA C hg hc hM h1 h6 hdc h5 h2 h3 h4 hd hR hst hn hw hf hdg (fun _ _ _ h => False.elim h) kk
theorem z_callAe {w : Option Value} {G1 : zH} (C : Cx X D B own cc ret hh nm post px rm) {b ci : Nat} {fs : List Value} {C0 owner : String} {T0 : u_T} {N0 : Nat} (hg : G b = some (.inr (ci, fs))) (hc : zCL[ci]? = some (C0, T0, N0)) (hM : Ct D B y (ws_ y bytes maxL ret') rm' (.ref b :: As) G (zpe w G1) zno)
    (h1 : Cond.methodLink own index x ∈ lw_all) (h6 : Cond.sameMethod x.cls owner x.name x.desc ∈ lw_all) (hdc : Cond.declares ⟨owner, x.name, x.desc⟩ ∈ lw_tbl) (h5 : Cond.selects C0 x y ∈ lw_all) (h2 : Cond.instanceMethod y ∈ lw_all) (h3 : Cond.initialized y.cls ∈ lw_all) (h4 : Cond.code y bytes maxL ret' ∈ lw_all)
    (hd : owner ≠ "java/lang/invoke/MethodHandle" ∧ owner ≠ "java/lang/invoke/VarHandle" ∧ (parseMethodDescriptor x.desc).map (fun d => d.parameters.length) = some np) (hR : zroom rm rm' maxL)
    (hst : st0 = As.reverse ++ .ref b :: rest) (hn : As.length = np) (hw : (rest.map fun v => v.category).sum ≤ 8) (hf : n0 + rm'.cells ≤ rm.cells ∧ k0 + rm'.slots ≤ rm.slots) (hdg : decode cc pc = .ok (.invokevirtual index, 3))
    (g : Z X (pc + 3) L (w.toList ++ rest) G1 (n0 + rm'.cells) (k0 + rm'.slots)) : Z X pc L st0 G n0 k0 :=
  z_callA C hg hc hM h1 h6 hdc h5 h2 h3 h4 hd hR hst hn hw hf hdg (fun _ _ _ h => False.elim h) (fun v G' h => by obtain ⟨rfl, rfl⟩ := h; exact g)
theorem z_callUn (C : Cx X D B own cc ret hh nm post px rm) {b ci : Nat} {fs : List Value} {C0 owner : String} {T0 : u_T} {N0 : Nat} (hg : G b = some (.inr (ci, fs))) (hc : zCL[ci]? = some (C0, T0, N0)) (hyx : y = ⟨owner, x.name, x.desc⟩) (hM : Ct D B y (ws_ y bytes maxL ret') rm' (.ref b :: As) G post' zno)
    (h1 : Cond.methodLink own index x ∈ lw_all) (h6 : Cond.sameMethod x.cls owner x.name x.desc ∈ lw_all) (h5 : Cond.selects C0 x y ∈ lw_all) (h2 : Cond.instanceMethod y ∈ lw_all) (h3 : Cond.initialized y.cls ∈ lw_all) (h4 : Cond.code y bytes maxL ret' ∈ lw_all)
    (hd : owner ≠ "java/lang/invoke/MethodHandle" ∧ owner ≠ "java/lang/invoke/VarHandle" ∧ (parseMethodDescriptor x.desc).map (fun d => d.parameters.length) = some np) (hR : zroom rm rm' maxL)
    (hst : st0 = As.reverse ++ .ref b :: rest) (hn : As.length = np) (hw : (rest.map fun v => v.category).sum ≤ 8) (hf : n0 + rm'.cells ≤ rm.cells ∧ k0 + rm'.slots ≤ rm.slots) (hdg : decode cc pc = .ok (.invokevirtual index, 3))
    (kk : ∀ (v : Option Value) (G' : zH), post' v G' → Z X (pc + 3) L (v.toList ++ rest) G' (n0 + rm'.cells) (k0 + rm'.slots)) : Z X pc L st0 G n0 k0 :=
  z_callU C hg hc hyx hM h1 h6 h5 h2 h3 h4 hd hR hst hn hw hf hdg (fun _ _ _ h => False.elim h) kk
theorem z_callUe {w : Option Value} {G1 : zH} (C : Cx X D B own cc ret hh nm post px rm) {b ci : Nat} {fs : List Value} {C0 owner : String} {T0 : u_T} {N0 : Nat} (hg : G b = some (.inr (ci, fs))) (hc : zCL[ci]? = some (C0, T0, N0)) (hyx : y = ⟨owner, x.name, x.desc⟩) (hM : Ct D B y (ws_ y bytes maxL ret') rm' (.ref b :: As) G (zpe w G1) zno)
    (h1 : Cond.methodLink own index x ∈ lw_all) (h6 : Cond.sameMethod x.cls owner x.name x.desc ∈ lw_all) (h5 : Cond.selects C0 x y ∈ lw_all) (h2 : Cond.instanceMethod y ∈ lw_all) (h3 : Cond.initialized y.cls ∈ lw_all) (h4 : Cond.code y bytes maxL ret' ∈ lw_all)
    (hd : owner ≠ "java/lang/invoke/MethodHandle" ∧ owner ≠ "java/lang/invoke/VarHandle" ∧ (parseMethodDescriptor x.desc).map (fun d => d.parameters.length) = some np) (hR : zroom rm rm' maxL)
    (hst : st0 = As.reverse ++ .ref b :: rest) (hn : As.length = np) (hw : (rest.map fun v => v.category).sum ≤ 8) (hf : n0 + rm'.cells ≤ rm.cells ∧ k0 + rm'.slots ≤ rm.slots) (hdg : decode cc pc = .ok (.invokevirtual index, 3))
    (g : Z X (pc + 3) L (w.toList ++ rest) G1 (n0 + rm'.cells) (k0 + rm'.slots)) : Z X pc L st0 G n0 k0 :=
  z_callU C hg hc hyx hM h1 h6 h5 h2 h3 h4 hd hR hst hn hw hf hdg (fun _ _ _ h => False.elim h) (fun v G' h => by obtain ⟨rfl, rfl⟩ := h; exact g)
theorem z_callSUn (C : Cx X D B own cc ret hh nm post px rm) {b ci : Nat} {fs : List Value} {C0 : String} {T0 : u_T} {N0 : Nat} (hg : G b = some (.inr (ci, fs))) (hc : zCL[ci]? = some (C0, T0, N0)) (hM : Ct D B y (ws_ y bytes maxL ret') rm' (.ref b :: As) G post' zno)
    (h1 : Cond.methodLink own index y ∈ lw_all) (h6 : Cond.sameMethod y.cls y.cls y.name y.desc ∈ lw_all) (h5 : Cond.superclass own y.cls ∈ lw_all) (h2 : Cond.instanceMethod y ∈ lw_all) (h3 : Cond.initialized y.cls ∈ lw_all) (h4 : Cond.code y bytes maxL ret' ∈ lw_all)
    (hd : y.name ≠ "<init>" ∧ (parseMethodDescriptor y.desc).map (fun d => d.parameters.length) = some np) (hR : zroom rm rm' maxL)
    (hst : st0 = As.reverse ++ .ref b :: rest) (hn : As.length = np) (hw : (rest.map fun v => v.category).sum ≤ 8) (hf : n0 + rm'.cells ≤ rm.cells ∧ k0 + rm'.slots ≤ rm.slots) (hdg : decode cc pc = .ok (.invokespecial index, 3))
    (kk : ∀ (v : Option Value) (G' : zH), post' v G' → Z X (pc + 3) L (v.toList ++ rest) G' (n0 + rm'.cells) (k0 + rm'.slots)) : Z X pc L st0 G n0 k0 :=
  z_callSU C hg hc hM h1 h6 h5 h2 h3 h4 hd hR hst hn hw hf hdg (fun _ _ _ h => False.elim h) kk
theorem z_callSUe {w : Option Value} {G1 : zH} (C : Cx X D B own cc ret hh nm post px rm) {b ci : Nat} {fs : List Value} {C0 : String} {T0 : u_T} {N0 : Nat} (hg : G b = some (.inr (ci, fs))) (hc : zCL[ci]? = some (C0, T0, N0)) (hM : Ct D B y (ws_ y bytes maxL ret') rm' (.ref b :: As) G (zpe w G1) zno)
    (h1 : Cond.methodLink own index y ∈ lw_all) (h6 : Cond.sameMethod y.cls y.cls y.name y.desc ∈ lw_all) (h5 : Cond.superclass own y.cls ∈ lw_all) (h2 : Cond.instanceMethod y ∈ lw_all) (h3 : Cond.initialized y.cls ∈ lw_all) (h4 : Cond.code y bytes maxL ret' ∈ lw_all)
    (hd : y.name ≠ "<init>" ∧ (parseMethodDescriptor y.desc).map (fun d => d.parameters.length) = some np) (hR : zroom rm rm' maxL)
    (hst : st0 = As.reverse ++ .ref b :: rest) (hn : As.length = np) (hw : (rest.map fun v => v.category).sum ≤ 8) (hf : n0 + rm'.cells ≤ rm.cells ∧ k0 + rm'.slots ≤ rm.slots) (hdg : decode cc pc = .ok (.invokespecial index, 3))
    (g : Z X (pc + 3) L (w.toList ++ rest) G1 (n0 + rm'.cells) (k0 + rm'.slots)) : Z X pc L st0 G n0 k0 :=
  z_callSU C hg hc hM h1 h6 h5 h2 h3 h4 hd hR hst hn hw hf hdg (fun _ _ _ h => False.elim h) (fun v G' h => by obtain ⟨rfl, rfl⟩ := h; exact g)
end ZR7
