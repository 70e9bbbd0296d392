/-! calls of made objects -/
def zmop (i : Nat) : Instr := if i = 1 ∨ i = 2 then .invokestatic (zmk i).2.2.1 else .invokevirtual (zmk i).2.2.1
theorem zmdec : ∀ i q, zLMs[i]? = some q → (∀ j, j < (zmk i).2.1.length → decode (zmk i).1 (4 * j) = .ok (.aload_n 0, 1) ∧ decode (zmk i).1 (4 * j + 1) = .ok (.getfield ((zmk i).2.1.getD j 0), 3)) ∧ decode (zmk i).1 (4 * (zmk i).2.1.length) = .ok (.iload_n 1, 1) ∧
    decode (zmk i).1 (4 * (zmk i).2.1.length + 1) = .ok (zmop i, 3) ∧ decode (zmk i).1 (4 * (zmk i).2.1.length + 4) = .ok (.lreturn, 1) ∧ q.1.cls = zmN i ∧ plainName (zmN i ++ "$$Lambda") = true ∧ q.2.2.2.sam.toString = "(I)J" := by
  intro i q h
  match i, h with
  | 0, h => cases h; exact ⟨by decide +kernel, by decide +kernel, by decide +kernel, by decide +kernel, rfl, by decide +kernel, by decide +kernel⟩
  | 1, h => cases h; exact ⟨by decide +kernel, by decide +kernel, by decide +kernel, by decide +kernel, rfl, by decide +kernel, by decide +kernel⟩
  | 2, h => cases h; exact ⟨by decide +kernel, by decide +kernel, by decide +kernel, by decide +kernel, rfl, by decide +kernel, by decide +kernel⟩
  | 3, h => cases h; exact ⟨by decide +kernel, by decide +kernel, by decide +kernel, by decide +kernel, rfl, by decide +kernel, by decide +kernel⟩
  | n + 4, h => simp [zLMs] at h
theorem zmIf {c : ClassId} {name desc : String} {e : Setting} {vm : Vm} {k : Class} {r : MethodId} (hk : vm.classes[c]? = some k) (h : ((methodIn c name desc true none).ask e vm).1 = .ok r) : k.isInterface = true := by
  cases hi : k.isInterface with
  | true => rfl
  | false =>
    exfalso
    simp [methodIn, VmM.ask, VmM.bind_run, getClass, VmM.getVm, hk, VmM.pure_run, hi, VmM.failAs] at h
section ZMR
variable {p : Program} {l : Launch} {e : Env} {R : Room} {s : State} {m : MethodId} {args : Array Value} {below : List Frame} {meth : Method} {c : Code} {H : Heap} {locs : List Loc} {cells slots : Nat} {D : zG} {B : Nat} {G : zH}
/-- what a call of the i-th site's target asks of the tables; static or of an object -/
def zmT (i : Nat) (y : MethodName) (G : zH) (vs : List Value) : Prop := if i = 1 ∨ i = 2 then Cond.static y ∈ lw_all else
  Cond.instanceMethod y ∈ lw_all ∧ Cond.selects y.cls y y ∈ lw_all ∧ ∃ (a0 ci : Nat) (fs ws : List Value) (T0 : u_T) (N0 : Nat), vs = .ref a0 :: ws ∧ G a0 = some (.inr (ci, fs)) ∧ zCL[ci]? = some (y.cls, T0, N0)
theorem zmrun {i : Nat} {q : zLq} {y : MethodName} {bytes cc : ByteArray} {maxL nL : Nat} {ret : Option FieldType} {rm' : Room} {own : String} {index count b pc : Nat} {vs : List Value} {x : Int32} {rest st0 : List Value} {ls : Array Slot} {post' : Option Value → zH → Prop}
    (hq : zLMs[i]? = some q) (hy : y = ⟨q.2.2.2.implClass, q.2.2.2.implName, q.2.2.2.implDesc.toString⟩) (S : CallFix p m c cc nL s args lw_all own) (hW : Wd D B s)
    (hM : vx_Met l y (ws_ y bytes maxL ret) rm' (va_Pc (vs ++ [Value.int x]) (fun U => Wd D B U ∧ zI D B G U.heap)) (zQ D B post') (zQX D B zno) rm'.cells rm'.slots (zA B))
    (hI : zI D B G H) (hS : va_S (zA B) s.heap H locs) (hg : G b = some (.inr (100 + i, vs))) (hvs : vs.length = (zmk i).2.1.length)
    (h1 : Cond.methodLink own index ⟨q.2.2.2.iface, q.2.2.2.name, "(I)J"⟩ ∈ lw_all) (hdc : Cond.declares ⟨q.2.2.2.iface, q.2.2.2.name, "(I)J"⟩ ∈ lw_tbl) (h3 : Cond.initialized y.cls ∈ lw_all) (h4 : Cond.code y bytes maxL ret ∈ lw_all) (hOb : Cond.instantiable "java/lang/Object" 0 ∈ lw_all)
    (hk : zmT i y G vs) (hpost : ∀ v G', post' v G' → ∃ r : Int64, v = some (.long r)) (hnp : (parseMethodDescriptor y.desc).map (fun d => d.parameters.length) = some (if i = 1 ∨ i = 2 then vs.length + 1 else vs.length))
    (hmh : (q.2.2.2.iface ≠ "java/lang/invoke/MethodHandle" ∧ q.2.2.2.iface ≠ "java/lang/invoke/VarHandle") ∧ y.cls ≠ "java/lang/invoke/MethodHandle" ∧ y.cls ≠ "java/lang/invoke/VarHandle")
    (hR : rm'.frames + 2 ≤ R.frames ∧ 8 + (2 + 11) + (8 + (maxL + 11) + rm'.locals) ≤ R.locals) (hst : st0 = .int x :: .ref b :: rest) (hsz : ls.size = nL) (hw : (rest.map fun v => v.category).sum ≤ 8) (hf : cells + rm'.cells ≤ R.cells ∧ slots + rm'.slots ≤ R.slots) (hdg : decode cc pc = .ok (.invokeinterface index count, 5)) :
    vx_Run5 p l e R s m args below meth c H locs cells slots rm'.cells rm'.slots (F0 m pc ls st0) rest (zQ D B post' (vs ++ [Value.int x]).toArray) (zQX D B zno) (zA B) := by
  obtain ⟨hx, hb, hml, hown, hts⟩ := S
  obtain ⟨d1, d2, d3, d4, d5, d6, d7⟩ := zmdec i q hq
  intro T hT X
  -- the made class, at the start
  obtain ⟨m0, k0, cf0, i0, p0, z1, z2, z3, z4, z5, z6, z7⟩ := hW.2.2.2.2.2.1 i q hq
  obtain ⟨k1, z8, z9⟩ := className_of_methodNamed z1
  cases z2.symm.trans z8
  have hOb1 : ∀ (U : State), s.WarmedH U.vm → ∀ o ok, U.vm.findClass "java/lang/Object" = some o → U.vm.classes[o]? = some ok → ok.instanceTypes = #[] := by
    intro U hU o ok e1 e2
    obtain ⟨o', ok', f1, f2, -, -, -, f6⟩ := Cond.instantiable_spec (word_at (a' := args) (U := U) hU (lw_self _ hOb).2 (hts _ hOb))
    cases f1.symm.trans e1
    cases f2.symm.trans e2
    exact Array.size_eq_zero_iff.mp f6
  obtain ⟨kL, tk, file, bm, yc, t, iface, target, found, nt, y1, y2, y3, y4, y5, y6, y7, y8, y9, y10, y11, y12, y13, y14, y15, -⟩ := zmade hq z2 (z9.trans d5) z6 (hOb1 s (State.WarmedH.refl s))
  -- the interface's method
  obtain ⟨r0, r, hn, hrm, hstR, hsigR⟩ := Cond.declares_spec (va_Nw.use (A := args) rfl (hW.2.1 _ hdc rfl))
  have hfc := findClass_of_methodNamed hn
  cases y13.symm.trans hfc
  obtain ⟨ki, hki, hkin⟩ := className_of_methodNamed hn
  have hii : ki.isInterface = true := zmIf hki y14
  have hfo : found = r0 := by
    have h8 := State.methodFound?_of_named hn hmh.1
    unfold State.methodFound? at h8
    rw [d7] at y14
    simp only [hfc, hki, hii, Option.bind_eq_bind, Option.bind_some, y14] at h8
    simpa [Except.toOption] using h8
  subst hfo
  obtain ⟨hnR, hdR⟩ := name_of_methodNamed hn hrm
  obtain ⟨ix, v1, v2, v3⟩ := State.lambdaCallable_spec z7
  cases v1.symm.trans hfc
  have hcell : T.heap[b]? = some { cls := D.1 (100 + i), slots := vs.toArray, vm := .none } := by
    have h8 := hI.at hg
    unfold z_at at h8
    dsimp only at h8
    rw [if_neg (by omega)] at h8
    rw [hT]
    exact h8
  obtain ⟨vm₁, X₁, hstep₁⟩ := X.invokeinterface hx hown (hts _ h1) hn hrm hstR hki hii hmh.1 (a := b) (kcell := kL) hcell (fun z h => by cases h) y1 v2 (by rw [Launch.admits_selectMethod X.admits]; exact y15) y4 (by rw [hnR, hdR, ← d7]; exact v3) (by rw [y8]; decide) (by simp [Method.isAbstract, y8, hasFlag, Acc.abstract])
    (g := F0 m pc ls st0) rfl (argsL := [.int x]) (rest := rest) (by have h9 : parseMethodDescriptor "(I)J" = some r.sig := hsigR; have h8 : (parseMethodDescriptor "(I)J").map (fun d => d.parameters.length) = some 1 := (by decide +kernel); rw [h9] at h8; exact (Option.some.inj h8).symm) (by rw [hst]; rfl) (by rw [hb]; exact hdg)
  have hW1 : s.WarmedH vm₁ := X₁.warmed
  -- the made class, now
  obtain ⟨m0', k0', cf0', i0', p0', u1, u2, u3, u4, u5, u6, u7⟩ := (hW.2.2.2.2.2.1 i q hq).warm (U := T.setVm vm₁) hW1
  obtain ⟨k1', u8, u9⟩ := className_of_methodNamed u1
  cases u2.symm.trans u8
  obtain ⟨kM, tk', file', bm', yc', t', iface', target', found', nt', w1, w2, w3, w4, w5, w6, w7, w8, w9, w10, w11, w12, -, -, -, w16, w17, w18, w19, w20, w21, w22, w23⟩ := zmade hq u2 (u9.trans d5) u6 (hOb1 (T.setVm vm₁) hW1)
  -- the target
  have hwd : ∀ w, w ∈ lw_all → w.before args (T.setVm vm₁) = true := fun w h => word_at (U := T.setVm vm₁) hW1 (lw_self w h).2 (hts w h)
  obtain ⟨tg, htg⟩ := Cond.code_named (hwd _ h4)
  obtain ⟨methY, cY, hmY, -, -, -, -, -, -, hsigY⟩ := Cond.code_spec htg (hwd _ h4)
  obtain ⟨kY, hkY, hkYn⟩ := className_of_methodNamed htg
  have hfY := findClass_of_methodNamed htg
  have htc : t' = tg.cls := by
    rw [hy] at hfY
    exact Option.some.inj (w16.symm.trans hfY)
  subst htc
  cases w17.symm.trans hkY
  have htt : target' = tg := by
    have h8 := State.methodFound?_of_named htg hmh.2
    unfold State.methodFound? at h8
    rw [hy] at h8
    simp only [w16, w17, Option.bind_eq_bind, Option.bind_some, w18] at h8
    simpa [Except.toOption] using h8
  subst htt
  have hpoly : ∀ z, signaturePolymorphic tk' z = false := fun z => by simp [signaturePolymorphic, hkYn, hmh.2.1, hmh.2.2]
  obtain ⟨bb, hmem⟩ := memberRef_ask' (e := e) (vm := vm₁) (d := D.1 (100 + i)) (index := (zmk i).2.2.1) w1 w2 (Or.inl w21) w22
  have hK := vx_back (l := l) (R := { frames := rm'.frames + 1, cells := rm'.cells, slots := rm'.slots, locals := 8 + (maxL + 11) + rm'.locals }) (p := p) (e := e) (below := .java (F0 m pc ls rest) :: below) (s := (T.setVm vm₁).calling (F0 m pc ls rest) ⟨D.1 (100 + i), 1⟩ #[.ref b, .int x]) (sargs := #[.ref b, .int x]) (len := 3) (W9 := 8)
    (bytes := bytes) (maxL := maxL) (ret := ret) hM zPc_blind rfl rfl (Nat.le_refl _) (Nat.le_refl _) (fun w hw a' U hU => pay_in hts (lw_meth h4) w hw a' U (State.WarmedH.trans hW1 hU)) List.mem_cons_self (fun a' U hU => word_at (U := U) (State.WarmedH.trans hW1 hU) (lw_self _ h3).2 (hts _ h3))
  have hpl : (vs ++ [Value.int x]).length = vs.length + 1 := by simp
  obtain ⟨rr, st₀, t9, T', L, a1, a2, a3, a4, a5, a6, a7⟩ := zmC X₁ hx (g := F0 m pc ls rest) rfl (by rw [hml]; exact hsz) (by rw [hb]; exact hdg) (mk := ⟨D.1 (100 + i), 1⟩) w4 w5 w6 w7 w10 (State.plainMethod.of_name (fun k' hk' => by cases w1.symm.trans hk'; rw [w3]; exact d6)) w9 (a := b) (x := x) (vs := vs) (t := target') (igm := zmop i) hcell (fun h => by cases h) rfl
    (fun j hj => by
      rw [hvs] at hj
      obtain ⟨e1, e2⟩ := d1 j hj
      obtain ⟨ix, f, e3, e4, e5, e6⟩ := w12 j hj
      rw [List.getD_eq_getElem?_getD, e3] at e2
      exact ⟨ix, f, e1, e2, e4, e5, e6⟩)
    (by rw [hvs]; exact d2) (by rw [hvs]; exact d3) (by rw [hvs]; exact d4)
    (fun U hU1 hU2 hat tgt h => by
      have hs : U.topJava?.isSome := hat.top
      rw [hvs] at h ⊢
      by_cases hi : i = 1 ∨ i = 2
      · unfold zmT at hk
        rw [if_pos hi] at hk hnp
        have hop : zmop i = .invokestatic (zmk i).2.2.1 := if_pos hi
        rw [hop] at d3
        jvm_step hat [hx, w6, d3, invokestatic.wp_ready (e := e) (s := U) (m := target') (k := tk') (meth := methY) (args := vs ++ [.int x]) (rest := [])
          (f := { method := ⟨D.1 (100 + i), 1⟩, pc := 4 * (zmk i).2.1.length + 1, locals := #[.val (.ref b), .val (.int x)], stack := .int x :: vs.reverse, locked := none }) hs ⟨(zmk i).2.2.2, _, _, bb, target'.cls, tk', by rw [hU1]; exact hmem, by rw [hU1]; exact w20, by rw [hU1]; exact w17, by simp [hpoly]⟩
          (by rw [hU1]; exact w19) (by rw [hU1]; exact w17) (by rw [hU1]; exact hmY) (hpoly _) (Cond.static_spec htg hmY (hwd _ hk)) (Cond.initialized_spec hfY w17 (hwd _ h3)) (by rw [hpl]; rw [hsigY] at hnp; exact (Option.some.inj hnp).symm) (by simp)]
        intro acts'
        exact h _
      · unfold zmT at hk
        rw [if_neg hi] at hk hnp
        obtain ⟨hk1, hk2, a0, ci, fs, ws, T0, N0, rfl, hk3, hk4⟩ := hk
        have hop : zmop i = .invokevirtual (zmk i).2.2.1 := if_neg hi
        rw [hop] at d3
        obtain ⟨cellA, q1, q2, q3⟩ := zrcv hW.1 (hI.at hk3) hk4
        obtain ⟨mk9, meth9, q4, q5, q6, q7⟩ := Cond.instanceMethod_spec (hwd _ hk1)
        cases q4.symm.trans htg
        cases q5.symm.trans hmY
        obtain ⟨c9, r9, m9, q8, q9, q10, q11, mk8, q12, q13⟩ := Cond.selects_spec (hwd _ hk2)
        cases q10.symm.trans htg
        cases (State.methodFound?_of_named htg hmh.2).symm.trans q9
        have q14 : vm₁.findClass y.cls = some cellA.cls := by rw [hW1.alike.findClass]; exact q3
        cases q14.symm.trans q8
        have q15 : (T.setVm vm₁).vm.classes[target'.cls]? = some mk8 := q12
        cases w17.symm.trans q15
        jvm_step hat [hx, w6, d3, invokevirtual.wp_ready (e := e) (s := U) (r := target') (m := target') (k := tk') (mk := tk') (rmeth := methY) (meth := methY) (a := a0) (args := ws ++ [.int x]) (rest := []) (cell := cellA)
          (f := { method := ⟨D.1 (100 + i), 1⟩, pc := 4 * (zmk i).2.1.length + 1, locals := #[.val (.ref b), .val (.int x)], stack := .int x :: (ws.reverse ++ [.ref a0]), locked := none }) hs ⟨kM, file', (zmk i).2.2.2, nt', target'.cls, tk', by rw [hU1]; exact w1, w2, w21, by rw [hU1]; exact w20, by rw [hU1]; exact w17, q13⟩
          (by rw [hU1]; exact w19) (by rw [hU1]; exact w17) (by rw [hU1]; exact hmY) (hpoly _) q6 (by rw [hsigY] at hnp; simpa using (Option.some.inj hnp).symm) (by simp) (by rw [hU2]; show T.heap[a0]? = some cellA; rw [hT]; exact q1) (fun z hz => by rw [hz] at q2; cases q2)
          (by rw [hU1, Launch.admits_selectMethod X.admits]; exact q11) (by rw [hU1]; exact hmY) q7 (by rw [hU1]; exact w17) q13]
        exact h)
    hK (fun A a q B => by rintro ⟨_, _, _, _, _, _, _, _, ⟨⟨G9, h9, -⟩, -⟩, -⟩; exact h9) htg (fun U e1 e2 => ⟨by show 0 + rm'.cells ≤ rm'.cells; omega, by show 0 + rm'.slots ≤ rm'.slots; omega, zPre hW hS hI U (e1.trans hT) (by rw [e2]; exact hW1)⟩) (fun st v t hz => by obtain ⟨⟨v', G', e1, e2, -⟩, -⟩ := hz; cases e1; exact hpost _ _ e2)
    hR.1 (by have := hR.2; show 2 * 0 + (rest.map fun v => v.category).sum + (2 + 11) + (8 + (maxL + 11) + rm'.locals) ≤ R.locals; omega) hf.1 hf.2
  exact Or.inl ⟨some (.long rr), st₀, t9, T', L, a1.trans hT, a2, a3, a4, a5, a6, fun target h => hstep₁ _ fun acts => (a7 acts).trans h⟩
end ZMR
def zmfit : List FieldType → List Value → Prop
  | [], [] => True
  | t :: ts, v :: vs => (narrow t v = v ∧ fits t v = true) ∧ zmfit ts vs
  | _, _ => False
theorem zmfit.zip : ∀ {ts : List FieldType} {vs : List Value}, zmfit ts vs → ((ts.zip vs).map fun (t, v) => narrow t v) = vs ∧ ts.length = vs.length
  | [], [], _ => ⟨rfl, rfl⟩
  | t :: ts, v :: vs, h => by
    obtain ⟨h1, h2⟩ := zmfit.zip h.2
    refine ⟨?_, by simp [h2]⟩
    rw [List.zip_cons_cons, List.map_cons, h1]
    show narrow t v :: vs = v :: vs
    rw [h.1.1]
  | [], _ :: _, h => h.elim
  | _ :: _, [], h => h.elim
theorem zmfit.at : ∀ {ts : List FieldType} {vs : List Value}, zmfit ts vs → ∀ (i : Nat) (v : Value), vs[i]? = some v → ∃ t, ts[i]? = some t ∧ fits t v = true
  | [], [], _, i, v, h => by simp at h
  | t :: ts, w :: vs, h, 0, v, hv => by
    cases hv
    exact ⟨t, rfl, h.1.2⟩
  | t :: ts, w :: vs, h, i + 1, v, hv => by
    obtain ⟨t', h1, h2⟩ := zmfit.at h.2 i v (by simpa using hv)
    exact ⟨t', by simpa using h1, h2⟩
  | [], _ :: _, h, _, _, _ => h.elim
  | _ :: _, [], h, _, _, _ => h.elim
def zNm : zX → MethodName → Prop
  | (_, _, _, _, s, m, _, _, _, _, _, _, _, _), y => s.methodNamed? y = some m
/-- a contract from a walk of the body that knows its own name -/
theorem ct_introN {D : zG} {B : Nat} {y : MethodName} {rm : Room} {av : List Value} {G : zH} {post : Option Value → zH → Prop} {px : String → Nat → zH → Prop} {cc : ByteArray} {maxL : Nat} {ret : Option FieldType} (hy : plainName y.cls = true) (hlen : (lg_sl av).length ≤ maxL)
    (body : ∀ X : zX, Cx X D B y.cls cc ret [] y.name post px rm → zNm X y → Z X 0 (zentry maxL av) [] G 0 0) : Ct D B y (ws_ y cc maxL ret) rm av G post px := by
  intro l hst
  refine vx_ofW (cc := cc) (maxL := maxL) (ret := ret) hy rfl ?_
  intro p e s m args below meth c s₁ BL hml htab hv
  obtain ⟨rfl, hW, hI⟩ := hv
  have hts := atoms_spec (ws := ws_ y cc maxL ret) BL.pre
  have hts : ∀ w ∈ lw_all, w.before _ s = true := fun w h => hts w (List.mem_cons_of_mem _ h)
  have hnil : c.exceptionTable.toList = tableOf [] := by
    cases h : c.exceptionTable.toList with
    | nil => rfl
    | cons x r => exact (htab x (by rw [h]; exact List.mem_cons_self)).elim
  have key := body (p, l, e, (headSpec (ws_ y cc maxL ret) rm).room, s, m, av.toArray, below, meth, c, vx_MQ below (zQ D B post) (zQX D B px) av.toArray s rm.cells rm.slots (zA B), D, B, maxL)
    ⟨BL.exec, BL.bytes, hml, findClass_of_methodNamed BL.named, hts, hW, BL.notSynchronized, BL.returns, (name_of_methodNamed BL.named BL.method).1, hnil, hst, rfl, rfl, rfl, rfl, hI.1⟩ BL.named
  rw [lg_entry_eq]
  exact key s.heap [] _ hI va_S.rf (zL_entry hlen)
section ZMI
variable {X : zX} {D : zG} {B : Nat} {own : String} {cc : ByteArray} {ret : Option FieldType} {hh : List (Nat × Nat × Nat × Nat)} {nm : String} {post : Option Value → zH → Prop} {px : String → Nat → zH → Prop} {rm : Room} {pc : Nat} {L : zLs} {rest : List Value} {G : zH} {n0 k0 : Nat}
theorem zmv19 {α : Type} {x : Option CpInfo} {f : Nat → Nat → Option α} {r : α} (h : Lambda.shapeOf?.match_19 (fun _ => Option α) x f (fun _ => none) = some r) : ∃ b nt, x = some (.invokeDynamic b nt) ∧ f b nt = some r := by
  split at h
  · exact ⟨_, _, rfl, h⟩
  · cases h
theorem zmv17 {α : Type} {x : Option CpInfo} {f : Nat → Option α} {r : α} (h : Lambda.shapeOf?.match_17 (fun _ => Option α) x f (fun _ => none) = some r) : ∃ y, f y = some r := by
  split at h
  · exact ⟨_, h⟩
  · cases h
theorem zmv15 {α : Type} {x : Array Nat} {f : Nat → Nat → Nat → Option α} {r : α} (h : Lambda.shapeOf?.match_15 (fun _ => Option α) x f (fun _ => none) = some r) : ∃ a0 a1 a2, f a0 a1 a2 = some r := by
  rcases x with ⟨l⟩
  match l, h with
  | [], h => cases h
  | [_], h => cases h
  | [_, _], h => cases h
  | [a, b, c], h => exact ⟨a, b, c, h⟩
  | _ :: _ :: _ :: _ :: _, h => cases h
theorem zmv9 {α : Type} {x : Option CpInfo} {f : Nat → Option α} {r : α} (h : Lambda.shapeOf?.match_9 (fun _ => Option α) x f (fun _ => none) = some r) : ∃ y, f y = some r := by
  split at h
  · exact ⟨_, h⟩
  · cases h
theorem zmv12 {α : Type} {x : Option CpInfo} {f : Nat → Nat → Option α} {r : α} (h : Lambda.shapeOf?.match_12 (fun _ => Option α) x f (fun _ => none) = some r) : ∃ y z, f y z = some r := by
  split at h
  · exact ⟨_, _, h⟩
  · cases h
theorem zmv6 {α : Type} {x : Option FieldType} {f : String → Option α} {r : α} (h : Lambda.shapeOf?.match_6 (fun _ => Option α) x f (fun _ => none) = some r) : ∃ y, f y = some r := by
  split at h
  · exact ⟨_, h⟩
  · cases h
theorem shapeOf_spec {cf : ClassFile} {ix : Nat} {σ : Lambda.Shape} (h : Lambda.shapeOf? cf ix = some σ) : ∃ (bsm nt : Nat) (name desc : String) (sig : MethodDescriptor), cf.constantPool[ix]? = some (.invokeDynamic bsm nt) ∧ cf.constantPool.nameAndType? nt = some (name, desc) ∧ parseMethodDescriptor desc = some sig ∧ σ.captured = sig.parameters := by
  unfold Lambda.shapeOf? at h
  obtain ⟨b, nt, hc, h⟩ := zmv19 h
  obtain ⟨_, -, h⟩ := Option.bind_eq_some_iff.mp h
  obtain ⟨_, -, h⟩ := Option.bind_eq_some_iff.mp h
  obtain ⟨r, h⟩ := zmv17 h
  obtain ⟨_, -, h⟩ := Option.bind_eq_some_iff.mp h
  obtain ⟨_, _, _, h⟩ := zmv15 h
  obtain ⟨_, h⟩ := zmv9 h
  obtain ⟨_, _, h⟩ := zmv12 h
  obtain ⟨_, h⟩ := zmv9 h
  obtain ⟨⟨name, desc⟩, hnt, h⟩ := Option.bind_eq_some_iff.mp h
  obtain ⟨site, hsite, h⟩ := Option.bind_eq_some_iff.mp h
  obtain ⟨iface, h⟩ := zmv6 h
  obtain ⟨⟨implClass, implName, implDesc, implItf⟩, -, h⟩ := Option.bind_eq_some_iff.mp h
  obtain ⟨x1, -, h⟩ := Option.bind_eq_some_iff.mp h
  obtain ⟨x2, -, h⟩ := Option.bind_eq_some_iff.mp h
  obtain ⟨x3, -, h⟩ := Option.bind_eq_some_iff.mp h
  obtain ⟨x4, -, h⟩ := Option.bind_eq_some_iff.mp h
  obtain ⟨x5, -, h⟩ := Option.bind_eq_some_iff.mp h
  cases h
  exact ⟨b, nt, name, desc, site, hc, hnt, hsite, rfl⟩
theorem z_indy (C : Cx X D B own cc ret hh nm post px rm) {i : Nat} {q : zLq} (hq : zLMs[i]? = some q) (hN : zNm X q.1) (hpc : pc = q.2.1) (hOb : Cond.instantiable "java/lang/Object" 0 ∈ lw_all) {st0 vals : List Value} (hst : st0 = vals.reverse ++ rest) (hfit : zmfit q.2.2.2.captured vals) (hw : (st0.map fun v => v.category).sum ≤ 8) (hcells : n0 + 1 ≤ rm.cells) (hslots : k0 + vals.length ≤ rm.slots) (hloc : 3080 ≤ rm.locals)
    (hdg : decode cc pc = .ok (.invokedynamic q.2.2.1, 5)) (g : ∀ a : Nat, G a = none → B ≤ a → Z X (pc + 5) L (.ref a :: rest) (zup G a (.inr (100 + i, vals))) (n0 + 1) (k0 + vals.length)) : Z X pc L st0 G n0 k0 := by
  obtain ⟨p, l, e, R, s, m, args, below, meth, c, Q, D0, B0, nL⟩ := X
  obtain ⟨hx, hb, hml, hown, hts, hW, -, -, -, -, -, rfl, rfl, rfl, rfl, -⟩ := C
  intro H locs ls hI hS hL T hT XX
  obtain ⟨m0, k0', cf0, i0, p0, z1, z2, z3, z4, z5, z6, z7⟩ := hW.2.2.2.2.2.1 i q hq
  have hN' : s.methodNamed? q.1 = some m := hN
  cases hN'.symm.trans z1
  obtain ⟨k1, z8, z9⟩ := className_of_methodNamed z1
  cases z2.symm.trans z8
  obtain ⟨d1, d2, d3, d4, d5, d6, d7⟩ := zmdec i q hq
  have hOb1 : ∀ o ok, s.vm.findClass "java/lang/Object" = some o → s.vm.classes[o]? = some ok → ok.instanceTypes = #[] := by
    intro o ok e1 e2
    obtain ⟨o', ok', f1, f2, -, -, -, f6⟩ := Cond.instantiable_spec (hts _ hOb)
    cases f1.symm.trans e1
    cases f2.symm.trans e2
    exact Array.size_eq_zero_iff.mp f6
  obtain ⟨kL, tk, file, bm, yc, t, iface, target, found, nt', y1, y2, y3, y4, y5, y6, y7, y8, y9, y10, y11, y12, y13, y14, y15, y16, y17, y18, y19, y20, y21, y22, y23, y24⟩ := zmade hq z2 (z9.trans d5) z6 hOb1
  obtain ⟨bsm, nt, name, desc, sig, s1, s2, s3, s4⟩ := shapeOf_spec z4
  obtain ⟨f1, f2⟩ := hfit.zip
  have hplat : e.platform.lambdaLinkWords = 3072 := by rw [XX.admits.platform]
  obtain ⟨X', st⟩ := XX.lambdaMakes hx (g := F0 m pc ls st0) rfl (by rw [hml]; exact hL.2.1) (by rw [hb]; exact hdg) z2 (by rw [← hpc] at z5; exact z5) z3 s1 s2 (parseLong_of_parse s3) (vals := vals) (rest := rest) (by rw [← s4]; exact f2.symm) hst y1
    (by rw [hplat]; show 2 * 0 + (st0.map fun v => v.category).sum + 3072 ≤ R.locals; omega) hcells (by rw [y11, f1]; exact hslots)
    (fun j v hj => by
      rw [y11, f1] at hj
      obtain ⟨t0, t1, t2⟩ := hfit.at j v (by simpa using hj)
      refine fresh_fits (Vm.Alike.refl s.vm) y1 y24 (ty := t0) ?_ t2
      rw [← y11] at t1
      simpa using t1)
  rw [y11, f1] at X' st
  have hz : (T.pushCell { cls := D0.1 (100 + i), slots := vals.toArray, vm := .none }).heap = H.push { cls := D0.1 (100 + i), slots := vals.toArray, vm := .none } := by rw [← hT]; rfl
  obtain ⟨hn1, hI1⟩ := hI.push (e := .inr (100 + i, vals)) (H1 := H.push { cls := D0.1 (100 + i), slots := vals.toArray, vm := .none }) (by
    unfold z_at
    dsimp only
    rw [if_neg (by omega)]
    simp) (by simp) (fun x hx9 => by rw [Array.getElem?_push, if_neg (Nat.ne_of_lt hx9)])
  have X9 : Stand p l e R s m args below meth c (T.pushCell { cls := D0.1 (100 + i), slots := vals.toArray, vm := .none }) locs (n0 + 1) (k0 + vals.length) := by simpa using X'
  obtain ⟨t2, a1, b1⟩ := g H.size hn1 hI.1 _ locs ls hI1 ⟨Nat.le_trans hS.1 (by simp), fun x g1 g2 => (by rw [Array.getElem?_push, if_neg (Nat.ne_of_lt (Nat.lt_of_lt_of_le g1 hS.1))]; exact hS.2.1 x g1 g2), hS.2.2⟩ hL _ hz X9
  exact ⟨t2, st t2 (by rw [hT]; exact a1), b1⟩
theorem z_callL (C : Cx X D B own cc ret hh nm post px rm) {i : Nat} {q : zLq} {y : MethodName} {bytes : ByteArray} {maxL : Nat} {ret' : Option FieldType} {rm' : Room} {index count b : Nat} {vs : List Value} {x : Int32} {st0 : List Value} {post' : Option Value → zH → Prop}
    (hq : zLMs[i]? = some q) (hg : G b = some (.inr (100 + i, vs))) (hvs : vs.length = (zmk i).2.1.length) (hy : y = ⟨q.2.2.2.implClass, q.2.2.2.implName, q.2.2.2.implDesc.toString⟩) (hM : Ct D B y (ws_ y bytes maxL ret') rm' (vs ++ [Value.int x]) G post' zno)
    (h1 : Cond.methodLink own index ⟨q.2.2.2.iface, q.2.2.2.name, "(I)J"⟩ ∈ lw_all) (hdc : Cond.declares ⟨q.2.2.2.iface, q.2.2.2.name, "(I)J"⟩ ∈ lw_tbl) (h3 : Cond.initialized y.cls ∈ lw_all) (h4 : Cond.code y bytes maxL ret' ∈ lw_all) (hOb : Cond.instantiable "java/lang/Object" 0 ∈ lw_all)
    (hk : zmT i y G vs) (hpost : ∀ v G', post' v G' → ∃ r : Int64, v = some (.long r)) (hnp : (parseMethodDescriptor y.desc).map (fun d => d.parameters.length) = some (if i = 1 ∨ i = 2 then vs.length + 1 else vs.length))
    (hmh : (q.2.2.2.iface ≠ "java/lang/invoke/MethodHandle" ∧ q.2.2.2.iface ≠ "java/lang/invoke/VarHandle") ∧ y.cls ≠ "java/lang/invoke/MethodHandle" ∧ y.cls ≠ "java/lang/invoke/VarHandle")
    (hR : rm'.frames + 2 ≤ rm.frames ∧ 8 + (2 + 11) + (8 + (maxL + 11) + rm'.locals) ≤ rm.locals) (hst : st0 = .int x :: .ref b :: rest) (hw : (rest.map fun v => v.category).sum ≤ 8) (hf : n0 + rm'.cells ≤ rm.cells ∧ k0 + rm'.slots ≤ rm.slots) (hdg : decode cc pc = .ok (.invokeinterface index count, 5))
    (kk : ∀ (r : Int64) (G' : zH), post' (some (.long r)) G' → Z X (pc + 5) L (.long r :: rest) G' (n0 + rm'.cells) (k0 + rm'.slots)) : Z X pc L st0 G n0 k0 := by
  obtain ⟨p, l, e, R, s, m, args, below, meth, c, Q, D0, B0, nL⟩ := X
  obtain ⟨hx, hb, hml, hown, hts, hW, -, -, -, -, hsl, rfl, rfl, rfl, rfl, -⟩ := C
  intro H locs ls hI hS hL
  exact zfin5 (zmrun hq hy ⟨hx, hb, hml, hown, hts⟩ hW (hM l hsl) hI hS hg hvs h1 hdc h3 h4 hOb hk hpost hnp hmh hR hst hL.2.1 hw hf hdg) hS hL (fun v G' h => by obtain ⟨r, rfl⟩ := hpost v G' h; exact kk r G' h) (fun _ _ _ h => False.elim h)
end ZMI
