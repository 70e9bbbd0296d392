/-! made classes: what is written for the four sites -/
/-- code, indices of the fields, index of the method, of its class -/
def zmk : Nat → ByteArray × List Nat × Nat × Nat
  | 0 => (⟨#[42, 180, 0, 15, 27, 182, 0, 22, 173]⟩, [15], 22, 19)
  | 1 => (⟨#[42, 180, 0, 15, 27, 184, 0, 23, 173]⟩, [15], 23, 19)
  | 2 => (⟨#[42, 180, 0, 16, 42, 180, 0, 18, 27, 184, 0, 26, 173]⟩, [16, 18], 26, 22)
  | _ => (⟨#[42, 180, 0, 19, 42, 180, 0, 21, 42, 180, 0, 23, 42, 180, 0, 25, 27, 182, 0, 33, 173]⟩, [19, 21, 23, 25], 33, 29)
def zmarg : Nat → String
  | 0 => "arg$1" | 1 => "arg$2" | 2 => "arg$3" | _ => "arg$4"
def zmN : Nat → String
  | 0 => "TrackArray$Track" | 1 => "TrackArray$Track" | _ => "TrackArray"
/-- all that is asked of the file, as a test -/
def zmok (i : Nat) (q : zLq) : Bool :=
  match q.2.2.2.file (zmN i) with
  | none => false
  | some D =>
    (match layoutMethods D with
    | none => false
    | some ms => match ms[1]? with
      | none => false
      | some f => decide (f.accessFlags = 1) && decide (f.sig.returnType = some .long) && (match f.code with | none => false | some x => decide (x.code.data = (zmk i).1.data) && decide (x.maxLocals = 2))) &&
    (match layoutFields D 0 with
    | none => false
    | some lay => decide (lay.2.1.toList = q.2.2.2.captured) && ((List.range (zmk i).2.1.length).all fun j =>
        (match lay.1[j]? with | some f => !f.isStatic && f.slot == j | none => false) && decide (lay.1.findIdx? (·.name == zmarg j) = some j) &&
        (match (zmk i).2.1[j]? with
          | none => false
          | some ix => match D.constantPool[ix]? with
            | some (.fieldref _ nt) => (match D.constantPool.nameAndType? nt with | some (n, _) => n == zmarg j | none => false)
            | _ => false))) &&
    (match D.constantPool[(zmk i).2.2.1]? with
      | some (.methodref ci nt) => ci == (zmk i).2.2.2 && decide (D.constantPool.className? ci = some q.2.2.2.implClass) && decide (D.constantPool.nameAndType? nt = some (q.2.2.2.implName, q.2.2.2.implDesc.toString))
      | _ => false) &&
    (match D.constantPool[(zmk i).2.2.2]? with
      | some (.class_ n) => decide ((zmk i).2.2.2 ≠ D.thisClass) && decide (D.constantPool.string? n = some q.2.2.2.implClass)
      | _ => false)
theorem zmok_all : ∀ i q, zLMs[i]? = some q → zmok i q = true := by
  intro i q h
  match i, h with
  | 0, h => cases h; decide +kernel
  | 1, h => cases h; decide +kernel
  | 2, h => cases h; decide +kernel
  | 3, h => cases h; decide +kernel
  | n + 4, h => simp [zLMs] at h
theorem zmade {e : Setting} {vm : Vm} {d c : ClassId} {dk : Class} {i : Nat} {q : zLq} (hi : zLMs[i]? = some q) (hd : vm.classes[d]? = some dk) (hn : dk.name = zmN i) (h : Lambda.isMade e vm d q.2.2.2 c = true)
    (hob : ∀ o ok, vm.findClass "java/lang/Object" = some o → vm.classes[o]? = some ok → ok.instanceTypes = #[]) :
    ∃ (k tk : Class) (file : ClassFile) (b : Method) (y : Code) (t iface : ClassId) (target found : MethodId) (nt : Nat),
      vm.classes[c]? = some k ∧ k.cf = some file ∧ k.name = zmN i ++ "$$Lambda" ∧ vm.method? ⟨c, 1⟩ = some b ∧ b.code = some y ∧ y.code = (zmk i).1 ∧ y.maxLocals = 2 ∧ b.accessFlags = 1 ∧ b.sig.returnType = some .long ∧ b.locks = false ∧
      k.instanceTypes.toList = q.2.2.2.captured ∧
      (∀ j, j < (zmk i).2.1.length → ∃ ix f, (zmk i).2.1[j]? = some ix ∧ vm.fieldReady c ix c f ∧ f.isStatic = false ∧ f.slot = j) ∧
      vm.findClass q.2.2.2.iface = some iface ∧ ((methodIn iface q.2.2.2.name q.2.2.2.sam.toString true none).ask e vm).1 = .ok found ∧ selectMethod {} vm c found = .method ⟨c, 1⟩ ∧
      vm.findClass q.2.2.2.implClass = some t ∧ vm.classes[t]? = some tk ∧ ((methodIn t q.2.2.2.implName q.2.2.2.implDesc.toString tk.isInterface none).ask e vm).1 = .ok target ∧
      vm.methodReady c (zmk i).2.2.1 target ∧ vm.classReady c (zmk i).2.2.2 t ∧ file.constantPool[(zmk i).2.2.1]? = some (.methodref (zmk i).2.2.2 nt) ∧ file.constantPool.nameAndType? nt = some (q.2.2.2.implName, q.2.2.2.implDesc.toString) ∧
      tk.isInterface = q.2.2.2.implItf ∧ k.kind = .ordinary := by
  have hk := zmok_all i q hi
  obtain ⟨dk', k, ok, tk, file, cf, object, iface, t, lay, methods, target, found, hd', hc, hfile, hcf, ho, hif, hok, hlay, hms, ht, htk, hg, hfound, hrec, -, -, -, hitf, hpool, hmeth, hfld, hty, hres, hsel⟩ := Lambda.isMade_spec h
  cases hd.symm.trans hd'
  rw [hn] at hcf
  have hz := hob _ _ ho hok
  rw [hz] at hlay hty
  unfold zmok at hk
  rw [hcf] at hk
  dsimp only at hk
  rw [hms, show layoutFields cf 0 = some lay from hlay] at hk
  simp only [Bool.and_eq_true] at hk
  obtain ⟨⟨⟨h1, h2⟩, h3⟩, h4⟩ := hk
  split at h1
  · cases h1
  · next f hf =>
    simp only [Bool.and_eq_true, decide_eq_true_eq] at h1
    obtain ⟨⟨f1, f2⟩, f3⟩ := h1
    split at f3
    · cases f3
    · next x0 hx0 =>
      simp only [Bool.and_eq_true, decide_eq_true_eq] at f3
      obtain ⟨b, hb, hsame⟩ := hmeth 1 f hf
      obtain ⟨s1, s2, s3, s4, x, y, sx, sy, s5, s6, s7, s8⟩ := Lambda.sameMethod_spec hsame
      cases hx0.symm.trans sx
      simp only [Bool.and_eq_true, decide_eq_true_eq] at h2
      obtain ⟨t1, t2⟩ := h2
      split at h3
      · next ci nt hm =>
        simp only [Bool.and_eq_true, decide_eq_true_eq, beq_iff_eq] at h3
        obtain ⟨⟨m1, m2⟩, m3⟩ := h3
        subst m1
        split at h4
        · next n9 hcl =>
          simp only [Bool.and_eq_true, decide_eq_true_eq] at h4
          refine ⟨k, tk, file, b, y, t, iface, target, found, nt, hc, hfile, by rw [hrec.1, hn], by simp [Vm.method?, hc, hb], sy, by rw [s7]; exact ByteArray.ext f3.1, by rw [s6]; exact f3.2, by rw [s4]; exact f1, by rw [s3]; exact f2, ?_, ?_, ?_, hif, hfound, hsel, ht, htk, hg, ?_, ?_, ?_, ?_, hitf, hrec.2.1⟩
          · simp [Method.locks, Method.isSynchronized, s4, f1, hasFlag, Acc.synchronized]
          · rw [hty.1]
            simpa using t1
          · intro j hj
            have := List.all_eq_true.mp t2 j (List.mem_range.mpr hj)
            simp only [Bool.and_eq_true, decide_eq_true_eq] at this
            obtain ⟨⟨a1, a2⟩, a3⟩ := this
            split at a1
            · next fj hfj =>
              simp only [Bool.and_eq_true, Bool.not_eq_true', beq_iff_eq] at a1
              split at a3
              · cases a3
              · next ix hix =>
                split at a3
                · next cj ntj hcj =>
                  split at a3
                  · next nj dj hnj =>
                    rw [beq_iff_eq] at a3
                    subst a3
                    exact ⟨ix, fj, hix, ⟨k, j, k, hc, hres ix _ (Lambda.resolvedOf_field hcj hnj a2), hc, hfld j _ hfj⟩, a1.1, a1.2⟩
                  · cases a3
                · cases a3
            · cases a1
          · exact ⟨k, hc, hres _ _ (Lambda.resolvedOf_method hm m2 ht htk m3 hg)⟩
          · exact ⟨k, hc, hres _ _ (Lambda.resolvedOf_class hcl h4.1 h4.2 ht)⟩
          · rw [hpool.2.1]; exact hm
          · rw [hpool.2.1]; exact m3
        · cases h4
      · cases h3
section ZMC
variable {p : Program} {l : Launch} {e : Env} {R : Room} {s : State} {m : MethodId} {args : Array Value} {below : List Frame} {meth : Method} {c : Code} {T : State} {locs : List Loc} {cells slots : Nat}
/-- the forwarder's loads, one after the other -/
theorem zmL {U : State} {mk : MethodId} {ck : Code} {code : ByteArray} {a : Nat} {x : Int32} {cellK : Cell} {vs : List Value} {bel : List Frame} (hexec : p.tables.exec = Jvm.exec) (hat : At U mk ck bel) (hbytes : ck.code = code) (hcell : U.heap[a]? = some cellK) (hknown : cellK.vm ≠ .unknown) (hsl : cellK.slots = vs.toArray)
    (hf : ∀ j, j < vs.length → ∃ ix f, decode code (4 * j) = .ok (.aload_n 0, 1) ∧ decode code (4 * j + 1) = .ok (.getfield ix, 3) ∧ U.vm.fieldReady mk.cls ix mk.cls f ∧ f.isStatic = false ∧ f.slot = j) {tg : State} :
    ∀ j, j ≤ vs.length → Steps p.tables e bel (U.setTop { method := mk, pc := 4 * j, locals := #[.val (.ref a), .val (.int x)], stack := (vs.take j).reverse, locked := none }) tg → Steps p.tables e bel (U.setTop { method := mk, pc := 0, locals := #[.val (.ref a), .val (.int x)], stack := [], locked := none }) tg
  | 0, _, h => h
  | j + 1, hj, h => by
    refine zmL hexec hat hbytes hcell hknown hsl hf j (by omega) ?_
    obtain ⟨ix, f, d0, d1, h1, h2, h3⟩ := hf j (by omega)
    have hs : U.topJava?.isSome := hat.top
    have hv : cellK.slots[f.slot]? = some vs[j] := by rw [hsl, h3]; simp
    have hst : (vs.take (j + 1)).reverse = vs[j] :: (vs.take j).reverse := by rw [List.take_succ_eq_append_getElem (by omega)]; simp
    rw [hst] at h
    jvm_step hat [hexec, hbytes, d0, Value.isRef]
    jvm_step hat [hexec, hbytes, d1, getfield.wp_ready (e := e) (s := U) (c := mk.cls) (field := f) (a := a) (rest := (vs.take j).reverse) (cell := cellK) (v := vs[j])
      (f := { method := mk, pc := 4 * j + 1, locals := #[.val (.ref a), .val (.int x)], stack := .ref a :: (vs.take j).reverse, locked := none }) hs h1 h2 rfl hcell hknown hv]
    exact h
theorem zmC (X : Stand p l e R s m args below meth c T locs cells slots) (hexec : p.tables.exec = Jvm.exec) {g : JFrame} (hg : g.method = m) (hsize : g.locals.size = c.maxLocals) {ig : Instr} {len : Nat} (hdg : decode c.code g.pc = .ok (ig, len))
    {mk : MethodId} {methk : Method} {ck : Code} {code : ByteArray} (hmk : T.vm.method? mk = some methk) (hck : methk.code = some ck) (hbytes : ck.code = code) (hml : ck.maxLocals = 2) (hlk : methk.locks = false) (hpk : T.plainMethod mk) (hretk : methk.sig.returnType = some .long)
    {a : Nat} {x : Int32} {cellK : Cell} {vs : List Value} {t : MethodId} {igm : Instr} (hcell : T.heap[a]? = some cellK) (hknown : cellK.vm ≠ .unknown) (hsl : cellK.slots = vs.toArray)
    (hf : ∀ j, j < vs.length → ∃ ix f, decode code (4 * j) = .ok (.aload_n 0, 1) ∧ decode code (4 * j + 1) = .ok (.getfield ix, 3) ∧ T.vm.fieldReady mk.cls ix mk.cls f ∧ f.isStatic = false ∧ f.slot = j)
    (hdi : decode code (4 * vs.length) = .ok (.iload_n 1, 1)) (hdm : decode code (4 * vs.length + 1) = .ok (igm, 3)) (hdr : decode code (4 * vs.length + 4) = .ok (.lreturn, 1))
    (hinv : ∀ U : State, U.vm = T.vm → U.heap = T.heap → At U mk ck (.java g :: below) → ∀ tg, (∀ acts, Steps p.tables e (.java g :: below) (doInvoke e (U.setTop { method := mk, pc := 4 * vs.length + 1, locals := #[.val (.ref a), .val (.int x)], stack := [], locked := none }) acts t (vs ++ [Value.int x]).toArray).1 tg) →
      Steps p.tables e (.java g :: below) (U.setTop { method := mk, pc := 4 * vs.length + 1, locals := #[.val (.ref a), .val (.int x)], stack := .int x :: vs.reverse, locked := none }) tg)
    {R' : Room} {y : MethodName} {mc ms : Nat} {Pc : Array Value → State → Prop} {Qc : Array Value → State → Outcome → State → Prop} {free : Addr → Prop} {PX : Pt → Array Value → Addr → Pt → Prop}
    (hK : vx_Back l R' p e (.java g :: below) (T.calling g mk #[.ref a, .int x]) #[.ref a, .int x] y 3 8 (PreOf R' mc ms Pc) (PostOf Qc mc ms free) PX) (hPX : ∀ A a q B, ¬ PX A a q B)
    (hy : T.methodNamed? y = some t) (hpre : ∀ U : State, U.heap = T.heap → U.vm = T.vm → PreOf R' mc ms Pc ⟨U, [], 0, 0⟩ (vs ++ [Value.int x]).toArray)
    (hQ : ∀ st v t, Qc (vs ++ [Value.int x]).toArray st (.returned v) t → ∃ r, v = some (.long r))
    (hframes : R'.frames + 1 ≤ R.frames) (hlocals : 2 * g.monitorRoom + (g.stack.map fun v => v.category).sum + (2 + 11) + R'.locals ≤ R.locals) (hcells : cells + R'.cells ≤ R.cells) (hslots : slots + R'.slots ≤ R.slots) :
    ∃ (r : Int64) (st₀ t' T' : State) (L : List Loc), st₀.heap = T.heap ∧ Stand p l e R s m args below meth c T' (locs ++ L) (cells + mc) (slots + ms) ∧ (∀ q ∈ L, free q.base) ∧ T'.heap = t'.heap ∧ T'.vm = t'.vm ∧ Qc (vs ++ [Value.int x]).toArray st₀ (.returned (some (.long r))) t' ∧
      ∀ acts, Steps p.tables e below (doInvoke e (T.setTop g) acts mk #[.ref a, .int x]).1 (T'.setTop { g with pc := g.pc + len, stack := .long r :: g.stack }) := by
  obtain ⟨Y₀, hin⟩ := X.into hg hsize hdg #[.ref a, .int x] (R' := R') hmk hck hlk hpk hframes (by rw [hml]; exact hlocals) hcells hslots
  generalize hU : (T.setTop g).pushFrame (.java (entryFrame mk #[.ref a, .int x] ck.maxLocals)) = U at Y₀ hin
  have hvm : U.vm = T.vm := by rw [← hU]; rfl
  have hheap : U.heap = T.heap := by rw [← hU]; rfl
  have hyU : U.methodNamed? y = some t := by rw [← hU]; exact hy
  rcases hK mk methk ck ⟨U, [], 0, 0⟩ { method := mk, pc := 4 * vs.length + 1, locals := #[.val (.ref a), .val (.int x)], stack := [], locked := none } igm t (vs ++ [Value.int x]).toArray Y₀ rfl (by rw [hml]; rfl) (by rw [hbytes]; exact hdm) (by show 2 * 0 + 0 ≤ 8; omega) hyU (hpre U hheap hvm) with ⟨v, B, Y₁, ⟨g9, mk9, t9, L, e1, e2, hq, e3, hL, e4, e5⟩, hsteps⟩ | ⟨q, B, -, hx, -⟩
  rotate_left
  · exact absurd hx (hPX _ _ _ _)
  obtain ⟨r, rfl⟩ := hQ _ _ _ hq
  obtain ⟨fs, hleave, -, hended, hWe, hsame⟩ := Y₁.leave (v := some (.long r)) (fun h => by rw [hretk] at h; cases h) hlk
  obtain ⟨T', X', hW', -, ht⟩ := X.outOf hg hdg hended hWe hsame
  have hTh : T'.heap = B.U.heap := by have := congrArg State.heap ht; exact this.symm
  have hTv : T'.vm = B.U.vm := by have := congrArg State.vm ht; exact this.symm
  rw [e3, e4, e5] at X'
  have X9 : Stand p l e R s m args below meth c T' (locs ++ ([] ++ L)) (cells + (0 + mc)) (slots + (0 + ms)) := X'
  rw [List.nil_append, Nat.zero_add, Nat.zero_add] at X9
  refine ⟨r, (U.calling g9 mk9 (vs ++ [Value.int x]).toArray), t9, T', L, hheap, X9, hL, hTh.trans e1, hTv.trans e2, hq, fun acts => ?_⟩
  rw [hin acts]
  show Steps p.tables e below _ (T'.setTop { g with pc := g.pc + len, stack := (some (Value.long r)).toList ++ g.stack })
  rw [← ht]
  refine Steps.weaken (mid := [.java g]) ?_
  have hloc : entryFrame mk #[.ref a, .int x] ck.maxLocals = { method := mk, pc := 0, locals := #[.val (.ref a), .val (.int x)], stack := [], locked := none } := by rw [hml]; rfl
  rw [hloc]
  have hs : U.topJava?.isSome := Y₀.here.top
  refine zmL (mk := mk) (cellK := cellK) (vs := vs) hexec Y₀.here hbytes (by rw [hheap]; exact hcell) hknown hsl (by rw [hvm]; exact hf) vs.length (Nat.le_refl _) ?_
  rw [List.take_length]
  jvm_step Y₀.here [hexec, hbytes, hdi]
  refine hinv U hvm hheap Y₀.here _ fun acts' => ?_
  rw [doInvoke_state]
  refine hsteps.trans ?_
  show Steps p.tables e (.java g :: below) (B.U.setTop { method := mk, pc := 4 * vs.length + 1 + 3, locals := #[.val (.ref a), .val (.int x)], stack := [.long r], locked := none }) _
  jvm_step Y₁.here [hs, hexec, hbytes, hdr, Y₁.method', hretk, narrow]
  intro acts''
  rw [hleave { method := mk, pc := 4 * vs.length + 4, locals := #[.val (.ref a), .val (.int x)], stack := [], locked := none } acts'' rfl rfl rfl]
  exact Steps.refl _
end ZMC
