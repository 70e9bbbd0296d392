/-! the judgement of a method's walk -/
abbrev zX : Type := Program × Launch × Env × Room × State × MethodId × Array Value × List Frame × Method × Code × (State → Prop) × zG × Nat × Nat
def Z : zX → Nat → zLs → List Value → zH → Nat → Nat → Prop
  | (p, l, e, R, s, m, args, below, meth, c, Q, D, B, nL), pc, L, st, G, n, k => ∀ (H : Heap) (locs : List Loc) (ls : Array Slot), zI D B G H → va_S (zA B) s.heap H locs → zL nL L ls → W p l e R s m args below meth c H locs n k Q (F0 m pc ls st)
/-- the same, with q (of class E) thrown over the frame -/
def ZX : zX → Nat → zLs → List Value → String → Nat → zH → Nat → Nat → Prop
  | (p, l, e, R, s, m, args, below, meth, c, Q, D, B, nL), pc, L, st, E, q, G, n, k => ∀ (H : Heap) (locs : List Loc) (ls : Array Slot) (ce : Cell), zI D B G H → va_S (zA B) s.heap H locs → zL nL L ls → H[q]? = some ce → ce.vm = .none → s.vm.findClass E = some ce.cls → vx_W p l e R s m args below meth c H locs n k Q (F0 m pc ls st) q
def zQ (D : zG) (B : Nat) (post : Option Value → zH → Prop) : Array Value → State → Outcome → State → Prop := fun _ st o t => (∃ (v : Option Value) (G : zH), o = .returned v ∧ post v G ∧ zI D B G t.heap) ∧ va_F (zA B) st t
def zQX (D : zG) (B : Nat) (px : String → Nat → zH → Prop) : String → Addr → State → State → Prop := fun E q st t => (∃ G : zH, px E q G ∧ zI D B G t.heap) ∧ va_F (zA B) st t
/-- what stays fixed all through a method's walk -/
def Cx : zX → zG → Nat → String → ByteArray → Option FieldType → List (Nat × Nat × Nat × Nat) → String → (Option Value → zH → Prop) → (String → Nat → zH → Prop) → Room → Prop
  | (p, l, e, R, s, m, args, below, meth, c, Q, D, B, nL), D', B', own, cc, ret, hh, nm, post, px, rm =>
    p.tables.exec = Jvm.exec ∧ c.code = cc ∧ c.maxLocals = nL ∧ s.vm.findClass own = some m.cls ∧ (∀ w ∈ lw_all, w.before args s = true) ∧ Wd D B s ∧ meth.locks = false ∧ meth.sig.returnType = ret ∧ meth.name = nm ∧ c.exceptionTable.toList = tableOf hh ∧ l.stackTraces = false ∧
    R = rm ∧ D = D' ∧ B = B' ∧ Q = vx_MQ below (zQ D B post) (zQX D B px) args s rm.cells rm.slots (zA B) ∧ B ≤ s.heap.size
/-- a contract: from the arguments and the heap G, y returns with 'post' of answer and heap, or throws with 'px' of class, object and heap; what rm says of room -/
def Ct (D : zG) (B : Nat) (y : MethodName) (ws : List Cond) (rm : Room) (av : List Value) (G : zH) (post : Option Value → zH → Prop) (px : String → Nat → zH → Prop) : Prop :=
  ∀ l : Launch, l.stackTraces = false → vx_Met l y ws rm (va_Pc av (fun U => Wd D B U ∧ zI D B G U.heap)) (zQ D B post) (zQX D B px) rm.cells rm.slots (zA B)
/-- a contract of a method with handlers: it doesn't throw -/
def CtW (D : zG) (B : Nat) (y : MethodName) (ws : List Cond) (rm : Room) (av : List Value) (G : zH) (post : Option Value → zH → Prop) : Prop :=
  ∀ l : Launch, l.stackTraces = false → Met l y ws rm (va_Pc av (fun U => Wd D B U ∧ zI D B G U.heap)) (zQ D B post) rm.cells rm.slots (zA B)
def zno : String → Nat → zH → Prop := fun _ _ _ => False
/-! posts -/
def zpi (f : Int32 → zH → Prop) : Option Value → zH → Prop := fun v G => ∃ r : Int32, v = some (.int r) ∧ f r G
def zpl (f : Int64 → zH → Prop) : Option Value → zH → Prop := fun v G => ∃ r : Int64, v = some (.long r) ∧ f r G
def zpd (f : UInt64 → zH → Prop) : Option Value → zH → Prop := fun v G => ∃ r : UInt64, v = some (.double r) ∧ f r G
def zpf (f : UInt32 → zH → Prop) : Option Value → zH → Prop := fun v G => ∃ r : UInt32, v = some (.float r) ∧ f r G
def zpr (f : Nat → zH → Prop) : Option Value → zH → Prop := fun v G => ∃ r : Nat, v = some (.ref r) ∧ f r G
def zpv (f : zH → Prop) : Option Value → zH → Prop := fun v G => v = none ∧ f G
/-- just this answer, the heap as it was -/
def zpe (w : Option Value) (G0 : zH) : Option Value → zH → Prop := fun v G => v = w ∧ G = G0
/-- the entry's locals -/
def zent : List Value → zLs
  | [] => []
  | v :: r => match zc2 (some v) with
    | true => some v :: none :: zent r
    | false => some v :: zent r
theorem zent_len : ∀ vs : List Value, (zent vs).length = (lg_sl vs).length
  | [] => rfl
  | v :: r => by
    have ih := zent_len r
    unfold zent
    have e : lg_sl (v :: r) = (if v.category = 2 then [Slot.val v, .second] else [.val v]) ++ lg_sl r := by simp [lg_sl]
    rw [e]
    cases hc : zc2 (some v) with
    | true => rw [if_pos (zc2_cat.mp hc)]; simp [ih]
    | false => rw [if_neg (fun q => by rw [zc2_cat.mpr q] at hc; cases hc)]; simp [ih]
theorem zent_at : ∀ (vs : List Value) (o i : Nat) (v : Value), (zent vs)[i]? = some (some v) → (o + i, v) ∈ lv_args o vs
  | [], o, i, v, h => by simp [zent] at h
  | w :: r, o, i, v, h => by
    unfold zent at h
    unfold lv_args
    cases hc : zc2 (some w) with
    | true =>
      rw [hc] at h
      rw [if_pos (zc2_cat.mp hc)]
      match i, h with
      | 0, h => cases h; exact List.mem_cons_self
      | 1, h => cases h
      | i + 2, h =>
        have := zent_at r (o + 2) i v h
        rw [show o + (i + 2) = o + 2 + i by omega]
        exact List.mem_cons_of_mem _ this
    | false =>
      rw [hc] at h
      rw [if_neg (fun q => by rw [zc2_cat.mpr q] at hc; cases hc)]
      match i, h with
      | 0, h => cases h; exact List.mem_cons_self
      | i + 1, h =>
        have := zent_at r (o + 1) i v h
        rw [show o + (i + 1) = o + 1 + i by omega]
        exact List.mem_cons_of_mem _ this
def zentry (n : Nat) (vs : List Value) : zLs := zent vs ++ List.replicate (n - (zent vs).length) none
theorem zL_entry {vs : List Value} {n : Nat} (h : (lg_sl vs).length ≤ n) : zL n (zentry n vs) ((lg_sl vs ++ List.replicate (n - (lg_sl vs).length) Slot.unset).toArray) := by
  have h0 := lv_entry vs h
  refine ⟨?_, h0.1, h0.2.1, fun i v hi => ?_⟩
  · unfold zentry
    rw [List.length_append, List.length_replicate, zent_len]
    omega
  · unfold zentry at hi
    rw [List.getElem?_append] at hi
    split at hi
    · have := zent_at vs 0 i v hi
      rw [Nat.zero_add] at this
      exact h0.2.2 (i, v) this
    · rw [List.getElem?_replicate] at hi
      split at hi <;> cases hi
theorem zPc_blind {D : zG} {B : Nat} {av : List Value} {G : zH} : FrameBlind (va_Pc av (fun U => Wd D B U ∧ zI D B G U.heap)) := fun _ _ _ _ q => ⟨q.1, q.2.1.same rfl rfl, q.2.2⟩
/-- a contract from a walk of the body -/
theorem ct_intro {D : zG} {B : Nat} {y : MethodName} {rm : Room} {av : List Value} {G : zH} {post : Option Value → zH → Prop} {px : String → Nat → zH → Prop} {cc : ByteArray} {maxL : Nat} {ret : Option FieldType} (hy : plainName y.cls = true) (hlen : (lg_sl av).length ≤ maxL)
    (body : ∀ X : zX, Cx X D B y.cls cc ret [] y.name post px rm → Z X 0 (zentry maxL av) [] G 0 0) : Ct D B y (ws_ y cc maxL ret) rm av G post px := by
  intro l hst
  refine vx_ofW (cc := cc) (maxL := maxL) (ret := ret) hy rfl ?_
  intro p e s m args below meth c s₁ BL hml htab hv
  obtain ⟨rfl, hW, hI⟩ := hv
  have hts := atoms_spec (ws := ws_ y cc maxL ret) BL.pre
  have hts : ∀ w ∈ lw_all, w.before _ s = true := fun w h => hts w (List.mem_cons_of_mem _ h)
  have hnil : c.exceptionTable.toList = tableOf [] := by
    cases h : c.exceptionTable.toList with
    | nil => rfl
    | cons x r => exact (htab x (by rw [h]; exact List.mem_cons_self)).elim
  have key := body (p, l, e, (headSpec (ws_ y cc maxL ret) rm).room, s, m, av.toArray, below, meth, c, vx_MQ below (zQ D B post) (zQX D B px) av.toArray s rm.cells rm.slots (zA B), D, B, maxL)
    ⟨BL.exec, BL.bytes, hml, findClass_of_methodNamed BL.named, hts, hW, BL.notSynchronized, BL.returns, (name_of_methodNamed BL.named BL.method).1, hnil, hst, rfl, rfl, rfl, rfl, hI.1⟩
  rw [lg_entry_eq]
  exact key s.heap [] _ hI va_S.rf (zL_entry hlen)
section ZR
variable {X : zX} {D : zG} {B : Nat} {own : String} {cc : ByteArray} {ret : Option FieldType} {hh : List (Nat × Nat × Nat × Nat)} {nm : String} {post : Option Value → zH → Prop} {px : String → Nat → zH → Prop} {rm : Room} {pc : Nat} {L : zLs} {rest : List Value} {G : zH} {n0 k0 : Nat}
/-- fewer locals known, more cells counted -/
theorem z_conv {L' : zLs} {st : List Value} {n1 k1 : Nat} (hs : zsub L' L) (hn : n0 ≤ n1) (hk : k0 ≤ k1) (g : Z X pc L' st G n1 k1) : Z X pc L st G n0 k0 := by
  obtain ⟨p, l, e, R, s, m, args, below, meth, c, Q, D0, B0, nL⟩ := X
  intro H locs ls hI hS hL
  exact W.widen hn hk (g H locs ls hI hS (hL.sub hs))
theorem z_eq {st st' : List Value} {G' : zH} (e1 : st = st') (e2 : G = G') (g : Z X pc L st' G' n0 k0) : Z X pc L st G n0 k0 := by
  subst e1; subst e2; exact g
theorem z_heap {st : List Value} {G' : zH} (e2 : G = G') (g : Z X pc L st G' n0 k0) : Z X pc L st G n0 k0 := by
  subst e2; exact g
theorem z_topi {x : Int32} (k : ∀ y : Int32, y = x → Z X pc L (.int y :: rest) G n0 k0) : Z X pc L (.int x :: rest) G n0 k0 := k x rfl
theorem z_topl {x : Int64} (k : ∀ y : Int64, y = x → Z X pc L (.long y :: rest) G n0 k0) : Z X pc L (.long x :: rest) G n0 k0 := k x rfl
theorem z_seti {x y : Int32} (h : x = y) (k : Z X pc L (.int y :: rest) G n0 k0) : Z X pc L (.int x :: rest) G n0 k0 := by subst h; exact k
theorem z_setl {x y : Int64} (h : x = y) (k : Z X pc L (.long y :: rest) G n0 k0) : Z X pc L (.long x :: rest) G n0 k0 := by subst h; exact k
theorem z_iconst (C : Cx X D B own cc ret hh nm post px rm) {n : Int} {v : Int32} (hdg : decode cc pc = .ok (.iconst n, 1)) (hv : Int32.ofInt n = v) (k : Z X (pc + 1) L ((.int v :: rest)) G n0 k0) : Z X pc L ((rest)) G n0 k0 := by
  obtain ⟨p, l, e, R, s, m, args, below, meth, c, Q, D0, B0, nL⟩ := X
  obtain ⟨hx, hb, hml, hown, hts, -, -, -, -, -, -, rfl, rfl, rfl, rfl, -⟩ := C
  intro H locs ls hI hS hL
  exact lv_iconst hx hb hdg hv (k H locs ls hI hS hL)
theorem z_bipush (C : Cx X D B own cc ret hh nm post px rm) {n : Int} {v : Int32} (hdg : decode cc pc = .ok (.bipush n, 2)) (hv : (Int8.ofInt n).toInt32 = v) (k : Z X (pc + 2) L ((.int v :: rest)) G n0 k0) : Z X pc L ((rest)) G n0 k0 := by
  obtain ⟨p, l, e, R, s, m, args, below, meth, c, Q, D0, B0, nL⟩ := X
  obtain ⟨hx, hb, hml, hown, hts, -, -, -, -, -, -, rfl, rfl, rfl, rfl, -⟩ := C
  intro H locs ls hI hS hL
  exact lv_bipush hx hb hdg hv (k H locs ls hI hS hL)
theorem z_sipush (C : Cx X D B own cc ret hh nm post px rm) {n : Int} {v : Int32} (hdg : decode cc pc = .ok (.sipush n, 3)) (hv : (Int16.ofInt n).toInt32 = v) (k : Z X (pc + 3) L ((.int v :: rest)) G n0 k0) : Z X pc L ((rest)) G n0 k0 := by
  obtain ⟨p, l, e, R, s, m, args, below, meth, c, Q, D0, B0, nL⟩ := X
  obtain ⟨hx, hb, hml, hown, hts, -, -, -, -, -, -, rfl, rfl, rfl, rfl, -⟩ := C
  intro H locs ls hI hS hL
  exact lv_sipush hx hb hdg hv (k H locs ls hI hS hL)
theorem z_lconst (C : Cx X D B own cc ret hh nm post px rm) {n : Fin 2} {v : Int64} (hdg : decode cc pc = .ok (.lconst n, 1)) (hv : Int64.ofNat (n : Nat) = v) (k : Z X (pc + 1) L ((.long v :: rest)) G n0 k0) : Z X pc L ((rest)) G n0 k0 := by
  obtain ⟨p, l, e, R, s, m, args, below, meth, c, Q, D0, B0, nL⟩ := X
  obtain ⟨hx, hb, hml, hown, hts, -, -, -, -, -, -, rfl, rfl, rfl, rfl, -⟩ := C
  intro H locs ls hI hS hL
  exact lv_lconst hx hb hdg hv (k H locs ls hI hS hL)
theorem z_iload_n (C : Cx X D B own cc ret hh nm post px rm) {k : Fin 4} {i : Nat} {x : Int32} (hdg : decode cc pc = .ok (.iload_n k, 1)) (hi : (k : Nat) = i) (hl : L[i]? = some (some (.int x))) (k : Z X (pc + 1) L ((.int x :: rest)) G n0 k0) : Z X pc L ((rest)) G n0 k0 := by
  obtain ⟨p, l, e, R, s, m, args, below, meth, c, Q, D0, B0, nL⟩ := X
  obtain ⟨hx, hb, hml, hown, hts, -, -, -, -, -, -, rfl, rfl, rfl, rfl, -⟩ := C
  intro H locs ls hI hS hL
  exact lv_iload_n hx hb hdg hi (hL.at hl) (k H locs ls hI hS hL)
theorem z_iload (C : Cx X D B own cc ret hh nm post px rm) {i : Nat} {x : Int32} (hdg : decode cc pc = .ok (.iload i, 2)) (hl : L[i]? = some (some (.int x))) (k : Z X (pc + 2) L ((.int x :: rest)) G n0 k0) : Z X pc L ((rest)) G n0 k0 := by
  obtain ⟨p, l, e, R, s, m, args, below, meth, c, Q, D0, B0, nL⟩ := X
  obtain ⟨hx, hb, hml, hown, hts, -, -, -, -, -, -, rfl, rfl, rfl, rfl, -⟩ := C
  intro H locs ls hI hS hL
  exact lv_iload hx hb hdg (hL.at hl) (k H locs ls hI hS hL)
theorem z_lload_n (C : Cx X D B own cc ret hh nm post px rm) {k : Fin 4} {i : Nat} {x : Int64} (hdg : decode cc pc = .ok (.lload_n k, 1)) (hi : (k : Nat) = i) (hl : L[i]? = some (some (.long x))) (k : Z X (pc + 1) L ((.long x :: rest)) G n0 k0) : Z X pc L ((rest)) G n0 k0 := by
  obtain ⟨p, l, e, R, s, m, args, below, meth, c, Q, D0, B0, nL⟩ := X
  obtain ⟨hx, hb, hml, hown, hts, -, -, -, -, -, -, rfl, rfl, rfl, rfl, -⟩ := C
  intro H locs ls hI hS hL
  exact lv_lload_n hx hb hdg hi (hL.at hl) (k H locs ls hI hS hL)
theorem z_lload (C : Cx X D B own cc ret hh nm post px rm) {i : Nat} {x : Int64} (hdg : decode cc pc = .ok (.lload i, 2)) (hl : L[i]? = some (some (.long x))) (k : Z X (pc + 2) L ((.long x :: rest)) G n0 k0) : Z X pc L ((rest)) G n0 k0 := by
  obtain ⟨p, l, e, R, s, m, args, below, meth, c, Q, D0, B0, nL⟩ := X
  obtain ⟨hx, hb, hml, hown, hts, -, -, -, -, -, -, rfl, rfl, rfl, rfl, -⟩ := C
  intro H locs ls hI hS hL
  exact lv_lload hx hb hdg (hL.at hl) (k H locs ls hI hS hL)
theorem z_aload_n (C : Cx X D B own cc ret hh nm post px rm) {k : Fin 4} {i : Nat} {x : Nat} (hdg : decode cc pc = .ok (.aload_n k, 1)) (hi : (k : Nat) = i) (hl : L[i]? = some (some (.ref x))) (k : Z X (pc + 1) L ((.ref x :: rest)) G n0 k0) : Z X pc L ((rest)) G n0 k0 := by
  obtain ⟨p, l, e, R, s, m, args, below, meth, c, Q, D0, B0, nL⟩ := X
  obtain ⟨hx, hb, hml, hown, hts, -, -, -, -, -, -, rfl, rfl, rfl, rfl, -⟩ := C
  intro H locs ls hI hS hL
  exact lv_aload_n hx hb hdg hi (hL.at hl) (k H locs ls hI hS hL)
theorem z_aload (C : Cx X D B own cc ret hh nm post px rm) {i : Nat} {x : Nat} (hdg : decode cc pc = .ok (.aload i, 2)) (hl : L[i]? = some (some (.ref x))) (k : Z X (pc + 2) L ((.ref x :: rest)) G n0 k0) : Z X pc L ((rest)) G n0 k0 := by
  obtain ⟨p, l, e, R, s, m, args, below, meth, c, Q, D0, B0, nL⟩ := X
  obtain ⟨hx, hb, hml, hown, hts, -, -, -, -, -, -, rfl, rfl, rfl, rfl, -⟩ := C
  intro H locs ls hI hS hL
  exact lv_aload hx hb hdg (hL.at hl) (k H locs ls hI hS hL)
theorem z_aload_nN (C : Cx X D B own cc ret hh nm post px rm) {k : Fin 4} {i : Nat} (hdg : decode cc pc = .ok (.aload_n k, 1)) (hi : (k : Nat) = i) (hl : L[i]? = some (some (.null))) (k : Z X (pc + 1) L ((.null :: rest)) G n0 k0) : Z X pc L ((rest)) G n0 k0 := by
  obtain ⟨p, l, e, R, s, m, args, below, meth, c, Q, D0, B0, nL⟩ := X
  obtain ⟨hx, hb, hml, hown, hts, -, -, -, -, -, -, rfl, rfl, rfl, rfl, -⟩ := C
  intro H locs ls hI hS hL
  exact lv_aload_nN hx hb hdg hi (hL.at hl) (k H locs ls hI hS hL)
theorem z_aloadN (C : Cx X D B own cc ret hh nm post px rm) {i : Nat} (hdg : decode cc pc = .ok (.aload i, 2)) (hl : L[i]? = some (some (.null))) (k : Z X (pc + 2) L ((.null :: rest)) G n0 k0) : Z X pc L ((rest)) G n0 k0 := by
  obtain ⟨p, l, e, R, s, m, args, below, meth, c, Q, D0, B0, nL⟩ := X
  obtain ⟨hx, hb, hml, hown, hts, -, -, -, -, -, -, rfl, rfl, rfl, rfl, -⟩ := C
  intro H locs ls hI hS hL
  exact lv_aloadN hx hb hdg (hL.at hl) (k H locs ls hI hS hL)
theorem z_iadd (C : Cx X D B own cc ret hh nm post px rm) {x y : Int32} (hdg : decode cc pc = .ok (.iadd, 1)) (k : Z X (pc + 1) L ((.int (x + y) :: rest)) G n0 k0) : Z X pc L ((.int y :: .int x :: rest)) G n0 k0 := by
  obtain ⟨p, l, e, R, s, m, args, below, meth, c, Q, D0, B0, nL⟩ := X
  obtain ⟨hx, hb, hml, hown, hts, -, -, -, -, -, -, rfl, rfl, rfl, rfl, -⟩ := C
  intro H locs ls hI hS hL
  exact lv_iadd hx hb hdg (k H locs ls hI hS hL)
theorem z_isub (C : Cx X D B own cc ret hh nm post px rm) {x y : Int32} (hdg : decode cc pc = .ok (.isub, 1)) (k : Z X (pc + 1) L ((.int (x - y) :: rest)) G n0 k0) : Z X pc L ((.int y :: .int x :: rest)) G n0 k0 := by
  obtain ⟨p, l, e, R, s, m, args, below, meth, c, Q, D0, B0, nL⟩ := X
  obtain ⟨hx, hb, hml, hown, hts, -, -, -, -, -, -, rfl, rfl, rfl, rfl, -⟩ := C
  intro H locs ls hI hS hL
  exact lv_isub hx hb hdg (k H locs ls hI hS hL)
theorem z_imul (C : Cx X D B own cc ret hh nm post px rm) {x y : Int32} (hdg : decode cc pc = .ok (.imul, 1)) (k : Z X (pc + 1) L ((.int (x * y) :: rest)) G n0 k0) : Z X pc L ((.int y :: .int x :: rest)) G n0 k0 := by
  obtain ⟨p, l, e, R, s, m, args, below, meth, c, Q, D0, B0, nL⟩ := X
  obtain ⟨hx, hb, hml, hown, hts, -, -, -, -, -, -, rfl, rfl, rfl, rfl, -⟩ := C
  intro H locs ls hI hS hL
  exact lv_imul hx hb hdg (k H locs ls hI hS hL)
theorem z_iand (C : Cx X D B own cc ret hh nm post px rm) {x y : Int32} (hdg : decode cc pc = .ok (.iand, 1)) (k : Z X (pc + 1) L ((.int (x &&& y) :: rest)) G n0 k0) : Z X pc L ((.int y :: .int x :: rest)) G n0 k0 := by
  obtain ⟨p, l, e, R, s, m, args, below, meth, c, Q, D0, B0, nL⟩ := X
  obtain ⟨hx, hb, hml, hown, hts, -, -, -, -, -, -, rfl, rfl, rfl, rfl, -⟩ := C
  intro H locs ls hI hS hL
  exact lv_iand hx hb hdg (k H locs ls hI hS hL)
theorem z_ior (C : Cx X D B own cc ret hh nm post px rm) {x y : Int32} (hdg : decode cc pc = .ok (.ior, 1)) (k : Z X (pc + 1) L ((.int (x ||| y) :: rest)) G n0 k0) : Z X pc L ((.int y :: .int x :: rest)) G n0 k0 := by
  obtain ⟨p, l, e, R, s, m, args, below, meth, c, Q, D0, B0, nL⟩ := X
  obtain ⟨hx, hb, hml, hown, hts, -, -, -, -, -, -, rfl, rfl, rfl, rfl, -⟩ := C
  intro H locs ls hI hS hL
  exact lv_ior hx hb hdg (k H locs ls hI hS hL)
theorem z_ixor (C : Cx X D B own cc ret hh nm post px rm) {x y : Int32} (hdg : decode cc pc = .ok (.ixor, 1)) (k : Z X (pc + 1) L ((.int (x ^^^ y) :: rest)) G n0 k0) : Z X pc L ((.int y :: .int x :: rest)) G n0 k0 := by
  obtain ⟨p, l, e, R, s, m, args, below, meth, c, Q, D0, B0, nL⟩ := X
  obtain ⟨hx, hb, hml, hown, hts, -, -, -, -, -, -, rfl, rfl, rfl, rfl, -⟩ := C
  intro H locs ls hI hS hL
  exact lv_ixor hx hb hdg (k H locs ls hI hS hL)
theorem z_idiv (C : Cx X D B own cc ret hh nm post px rm) {x y : Int32} (hdg : decode cc pc = .ok (.idiv, 1)) (hne : ¬ y = 0) (k : Z X (pc + 1) L ((.int (x / y) :: rest)) G n0 k0) : Z X pc L ((.int y :: .int x :: rest)) G n0 k0 := by
  obtain ⟨p, l, e, R, s, m, args, below, meth, c, Q, D0, B0, nL⟩ := X
  obtain ⟨hx, hb, hml, hown, hts, -, -, -, -, -, -, rfl, rfl, rfl, rfl, -⟩ := C
  intro H locs ls hI hS hL
  exact lv_idiv hx hb hdg hne (k H locs ls hI hS hL)
theorem z_irem (C : Cx X D B own cc ret hh nm post px rm) {x y : Int32} (hdg : decode cc pc = .ok (.irem, 1)) (hne : ¬ y = 0) (k : Z X (pc + 1) L ((.int (x - x / y * y) :: rest)) G n0 k0) : Z X pc L ((.int y :: .int x :: rest)) G n0 k0 := by
  obtain ⟨p, l, e, R, s, m, args, below, meth, c, Q, D0, B0, nL⟩ := X
  obtain ⟨hx, hb, hml, hown, hts, -, -, -, -, -, -, rfl, rfl, rfl, rfl, -⟩ := C
  intro H locs ls hI hS hL
  exact lv_irem hx hb hdg hne (k H locs ls hI hS hL)
theorem z_ineg (C : Cx X D B own cc ret hh nm post px rm) {x : Int32} (hdg : decode cc pc = .ok (.ineg, 1)) (k : Z X (pc + 1) L ((.int (-x) :: rest)) G n0 k0) : Z X pc L ((.int x :: rest)) G n0 k0 := by
  obtain ⟨p, l, e, R, s, m, args, below, meth, c, Q, D0, B0, nL⟩ := X
  obtain ⟨hx, hb, hml, hown, hts, -, -, -, -, -, -, rfl, rfl, rfl, rfl, -⟩ := C
  intro H locs ls hI hS hL
  exact lv_ineg hx hb hdg (k H locs ls hI hS hL)
theorem z_ladd (C : Cx X D B own cc ret hh nm post px rm) {x y : Int64} (hdg : decode cc pc = .ok (.ladd, 1)) (k : Z X (pc + 1) L ((.long (x + y) :: rest)) G n0 k0) : Z X pc L ((.long y :: .long x :: rest)) G n0 k0 := by
  obtain ⟨p, l, e, R, s, m, args, below, meth, c, Q, D0, B0, nL⟩ := X
  obtain ⟨hx, hb, hml, hown, hts, -, -, -, -, -, -, rfl, rfl, rfl, rfl, -⟩ := C
  intro H locs ls hI hS hL
  exact lv_ladd hx hb hdg (k H locs ls hI hS hL)
theorem z_lsub (C : Cx X D B own cc ret hh nm post px rm) {x y : Int64} (hdg : decode cc pc = .ok (.lsub, 1)) (k : Z X (pc + 1) L ((.long (x - y) :: rest)) G n0 k0) : Z X pc L ((.long y :: .long x :: rest)) G n0 k0 := by
  obtain ⟨p, l, e, R, s, m, args, below, meth, c, Q, D0, B0, nL⟩ := X
  obtain ⟨hx, hb, hml, hown, hts, -, -, -, -, -, -, rfl, rfl, rfl, rfl, -⟩ := C
  intro H locs ls hI hS hL
  exact lv_lsub hx hb hdg (k H locs ls hI hS hL)
theorem z_lmul (C : Cx X D B own cc ret hh nm post px rm) {x y : Int64} (hdg : decode cc pc = .ok (.lmul, 1)) (k : Z X (pc + 1) L ((.long (x * y) :: rest)) G n0 k0) : Z X pc L ((.long y :: .long x :: rest)) G n0 k0 := by
  obtain ⟨p, l, e, R, s, m, args, below, meth, c, Q, D0, B0, nL⟩ := X
  obtain ⟨hx, hb, hml, hown, hts, -, -, -, -, -, -, rfl, rfl, rfl, rfl, -⟩ := C
  intro H locs ls hI hS hL
  exact lv_lmul hx hb hdg (k H locs ls hI hS hL)
theorem z_land (C : Cx X D B own cc ret hh nm post px rm) {x y : Int64} (hdg : decode cc pc = .ok (.land, 1)) (k : Z X (pc + 1) L ((.long (x &&& y) :: rest)) G n0 k0) : Z X pc L ((.long y :: .long x :: rest)) G n0 k0 := by
  obtain ⟨p, l, e, R, s, m, args, below, meth, c, Q, D0, B0, nL⟩ := X
  obtain ⟨hx, hb, hml, hown, hts, -, -, -, -, -, -, rfl, rfl, rfl, rfl, -⟩ := C
  intro H locs ls hI hS hL
  exact lv_land hx hb hdg (k H locs ls hI hS hL)
theorem z_lor (C : Cx X D B own cc ret hh nm post px rm) {x y : Int64} (hdg : decode cc pc = .ok (.lor, 1)) (k : Z X (pc + 1) L ((.long (x ||| y) :: rest)) G n0 k0) : Z X pc L ((.long y :: .long x :: rest)) G n0 k0 := by
  obtain ⟨p, l, e, R, s, m, args, below, meth, c, Q, D0, B0, nL⟩ := X
  obtain ⟨hx, hb, hml, hown, hts, -, -, -, -, -, -, rfl, rfl, rfl, rfl, -⟩ := C
  intro H locs ls hI hS hL
  exact lv_lor hx hb hdg (k H locs ls hI hS hL)
theorem z_lxor (C : Cx X D B own cc ret hh nm post px rm) {x y : Int64} (hdg : decode cc pc = .ok (.lxor, 1)) (k : Z X (pc + 1) L ((.long (x ^^^ y) :: rest)) G n0 k0) : Z X pc L ((.long y :: .long x :: rest)) G n0 k0 := by
  obtain ⟨p, l, e, R, s, m, args, below, meth, c, Q, D0, B0, nL⟩ := X
  obtain ⟨hx, hb, hml, hown, hts, -, -, -, -, -, -, rfl, rfl, rfl, rfl, -⟩ := C
  intro H locs ls hI hS hL
  exact lv_lxor hx hb hdg (k H locs ls hI hS hL)
theorem z_ldiv (C : Cx X D B own cc ret hh nm post px rm) {x y : Int64} (hdg : decode cc pc = .ok (.ldiv, 1)) (hne : ¬ y = 0) (k : Z X (pc + 1) L ((.long (x / y) :: rest)) G n0 k0) : Z X pc L ((.long y :: .long x :: rest)) G n0 k0 := by
  obtain ⟨p, l, e, R, s, m, args, below, meth, c, Q, D0, B0, nL⟩ := X
  obtain ⟨hx, hb, hml, hown, hts, -, -, -, -, -, -, rfl, rfl, rfl, rfl, -⟩ := C
  intro H locs ls hI hS hL
  exact lv_ldiv hx hb hdg hne (k H locs ls hI hS hL)
theorem z_lrem (C : Cx X D B own cc ret hh nm post px rm) {x y : Int64} (hdg : decode cc pc = .ok (.lrem, 1)) (hne : ¬ y = 0) (k : Z X (pc + 1) L ((.long (x - x / y * y) :: rest)) G n0 k0) : Z X pc L ((.long y :: .long x :: rest)) G n0 k0 := by
  obtain ⟨p, l, e, R, s, m, args, below, meth, c, Q, D0, B0, nL⟩ := X
  obtain ⟨hx, hb, hml, hown, hts, -, -, -, -, -, -, rfl, rfl, rfl, rfl, -⟩ := C
  intro H locs ls hI hS hL
  exact lv_lrem hx hb hdg hne (k H locs ls hI hS hL)
theorem z_lneg (C : Cx X D B own cc ret hh nm post px rm) {x : Int64} (hdg : decode cc pc = .ok (.lneg, 1)) (k : Z X (pc + 1) L ((.long (-x) :: rest)) G n0 k0) : Z X pc L ((.long x :: rest)) G n0 k0 := by
  obtain ⟨p, l, e, R, s, m, args, below, meth, c, Q, D0, B0, nL⟩ := X
  obtain ⟨hx, hb, hml, hown, hts, -, -, -, -, -, -, rfl, rfl, rfl, rfl, -⟩ := C
  intro H locs ls hI hS hL
  exact lv_lneg hx hb hdg (k H locs ls hI hS hL)
theorem z_ishl (C : Cx X D B own cc ret hh nm post px rm) {x y : Int32} (hdg : decode cc pc = .ok (.ishl, 1)) (k : Z X (pc + 1) L ((.int (x <<< (y &&& 31)) :: rest)) G n0 k0) : Z X pc L ((.int y :: .int x :: rest)) G n0 k0 := by
  obtain ⟨p, l, e, R, s, m, args, below, meth, c, Q, D0, B0, nL⟩ := X
  obtain ⟨hx, hb, hml, hown, hts, -, -, -, -, -, -, rfl, rfl, rfl, rfl, -⟩ := C
  intro H locs ls hI hS hL
  exact lv_ishl hx hb hdg (k H locs ls hI hS hL)
theorem z_ishr (C : Cx X D B own cc ret hh nm post px rm) {x y : Int32} (hdg : decode cc pc = .ok (.ishr, 1)) (k : Z X (pc + 1) L ((.int (x >>> (y &&& 31)) :: rest)) G n0 k0) : Z X pc L ((.int y :: .int x :: rest)) G n0 k0 := by
  obtain ⟨p, l, e, R, s, m, args, below, meth, c, Q, D0, B0, nL⟩ := X
  obtain ⟨hx, hb, hml, hown, hts, -, -, -, -, -, -, rfl, rfl, rfl, rfl, -⟩ := C
  intro H locs ls hI hS hL
  exact lv_ishr hx hb hdg (k H locs ls hI hS hL)
theorem z_i2l (C : Cx X D B own cc ret hh nm post px rm) {x : Int32} {v : Int64} (hdg : decode cc pc = .ok (.i2l, 1)) (hv : x.toInt64 = v) (k : Z X (pc + 1) L ((.long v :: rest)) G n0 k0) : Z X pc L ((.int x :: rest)) G n0 k0 := by
  obtain ⟨p, l, e, R, s, m, args, below, meth, c, Q, D0, B0, nL⟩ := X
  obtain ⟨hx, hb, hml, hown, hts, -, -, -, -, -, -, rfl, rfl, rfl, rfl, -⟩ := C
  intro H locs ls hI hS hL
  exact lv_i2l hx hb hdg hv (k H locs ls hI hS hL)
theorem z_l2i (C : Cx X D B own cc ret hh nm post px rm) {x : Int64} {v : Int32} (hdg : decode cc pc = .ok (.l2i, 1)) (hv : x.toInt32 = v) (k : Z X (pc + 1) L ((.int v :: rest)) G n0 k0) : Z X pc L ((.long x :: rest)) G n0 k0 := by
  obtain ⟨p, l, e, R, s, m, args, below, meth, c, Q, D0, B0, nL⟩ := X
  obtain ⟨hx, hb, hml, hown, hts, -, -, -, -, -, -, rfl, rfl, rfl, rfl, -⟩ := C
  intro H locs ls hI hS hL
  exact lv_l2i hx hb hdg hv (k H locs ls hI hS hL)
theorem z_i2b (C : Cx X D B own cc ret hh nm post px rm) {x : Int32} {v : Int32} (hdg : decode cc pc = .ok (.i2b, 1)) (hv : x.toInt8.toInt32 = v) (k : Z X (pc + 1) L ((.int v :: rest)) G n0 k0) : Z X pc L ((.int x :: rest)) G n0 k0 := by
  obtain ⟨p, l, e, R, s, m, args, below, meth, c, Q, D0, B0, nL⟩ := X
  obtain ⟨hx, hb, hml, hown, hts, -, -, -, -, -, -, rfl, rfl, rfl, rfl, -⟩ := C
  intro H locs ls hI hS hL
  exact lv_i2b hx hb hdg hv (k H locs ls hI hS hL)
theorem z_i2s (C : Cx X D B own cc ret hh nm post px rm) {x : Int32} {v : Int32} (hdg : decode cc pc = .ok (.i2s, 1)) (hv : x.toInt16.toInt32 = v) (k : Z X (pc + 1) L ((.int v :: rest)) G n0 k0) : Z X pc L ((.int x :: rest)) G n0 k0 := by
  obtain ⟨p, l, e, R, s, m, args, below, meth, c, Q, D0, B0, nL⟩ := X
  obtain ⟨hx, hb, hml, hown, hts, -, -, -, -, -, -, rfl, rfl, rfl, rfl, -⟩ := C
  intro H locs ls hI hS hL
  exact lv_i2s hx hb hdg hv (k H locs ls hI hS hL)
theorem z_i2c (C : Cx X D B own cc ret hh nm post px rm) {x : Int32} {v : Int32} (hdg : decode cc pc = .ok (.i2c, 1)) (hv : (x.toUInt32 % 65536).toInt32 = v) (k : Z X (pc + 1) L ((.int v :: rest)) G n0 k0) : Z X pc L ((.int x :: rest)) G n0 k0 := by
  obtain ⟨p, l, e, R, s, m, args, below, meth, c, Q, D0, B0, nL⟩ := X
  obtain ⟨hx, hb, hml, hown, hts, -, -, -, -, -, -, rfl, rfl, rfl, rfl, -⟩ := C
  intro H locs ls hI hS hL
  exact lv_i2c hx hb hdg hv (k H locs ls hI hS hL)
theorem z_iushr (C : Cx X D B own cc ret hh nm post px rm) {x y v : Int32} (hdg : decode cc pc = .ok (.iushr, 1)) (hv : (x.toUInt32 >>> (y.toUInt32 &&& Int32.toUInt32 31)).toInt32 = v) (k : Z X (pc + 1) L ((.int v :: rest)) G n0 k0) : Z X pc L ((.int y :: .int x :: rest)) G n0 k0 := by
  obtain ⟨p, l, e, R, s, m, args, below, meth, c, Q, D0, B0, nL⟩ := X
  obtain ⟨hx, hb, hml, hown, hts, -, -, -, -, -, -, rfl, rfl, rfl, rfl, -⟩ := C
  intro H locs ls hI hS hL
  exact lv_iushr hx hb hdg hv (k H locs ls hI hS hL)
theorem z_lushr (C : Cx X D B own cc ret hh nm post px rm) {x v : Int64} {y : Int32} (hdg : decode cc pc = .ok (.lushr, 1)) (hv : (x.toUInt64 >>> (y.toInt64.toUInt64 &&& Int64.toUInt64 63)).toInt64 = v) (k : Z X (pc + 1) L ((.long v :: rest)) G n0 k0) : Z X pc L ((.int y :: .long x :: rest)) G n0 k0 := by
  obtain ⟨p, l, e, R, s, m, args, below, meth, c, Q, D0, B0, nL⟩ := X
  obtain ⟨hx, hb, hml, hown, hts, -, -, -, -, -, -, rfl, rfl, rfl, rfl, -⟩ := C
  intro H locs ls hI hS hL
  exact lv_lushr hx hb hdg hv (k H locs ls hI hS hL)
theorem z_lshl (C : Cx X D B own cc ret hh nm post px rm) {x v : Int64} {y : Int32} (hdg : decode cc pc = .ok (.lshl, 1)) (hv : x <<< (y.toInt64 &&& 63) = v) (k : Z X (pc + 1) L ((.long v :: rest)) G n0 k0) : Z X pc L ((.int y :: .long x :: rest)) G n0 k0 := by
  obtain ⟨p, l, e, R, s, m, args, below, meth, c, Q, D0, B0, nL⟩ := X
  obtain ⟨hx, hb, hml, hown, hts, -, -, -, -, -, -, rfl, rfl, rfl, rfl, -⟩ := C
  intro H locs ls hI hS hL
  exact lv_lshl hx hb hdg hv (k H locs ls hI hS hL)
theorem z_lshr (C : Cx X D B own cc ret hh nm post px rm) {x v : Int64} {y : Int32} (hdg : decode cc pc = .ok (.lshr, 1)) (hv : x >>> (y.toInt64 &&& 63) = v) (k : Z X (pc + 1) L ((.long v :: rest)) G n0 k0) : Z X pc L ((.int y :: .long x :: rest)) G n0 k0 := by
  obtain ⟨p, l, e, R, s, m, args, below, meth, c, Q, D0, B0, nL⟩ := X
  obtain ⟨hx, hb, hml, hown, hts, -, -, -, -, -, -, rfl, rfl, rfl, rfl, -⟩ := C
  intro H locs ls hI hS hL
  exact lv_lshr hx hb hdg hv (k H locs ls hI hS hL)
theorem z_dup (C : Cx X D B own cc ret hh nm post px rm) {va : Value} (hdg : decode cc pc = .ok (.dup, 1)) (hva : va.category = 1) (k : Z X (pc + 1) L ((va :: va :: rest)) G n0 k0) : Z X pc L ((va :: rest)) G n0 k0 := by
  obtain ⟨p, l, e, R, s, m, args, below, meth, c, Q, D0, B0, nL⟩ := X
  obtain ⟨hx, hb, hml, hown, hts, -, -, -, -, -, -, rfl, rfl, rfl, rfl, -⟩ := C
  intro H locs ls hI hS hL
  exact lv_dup hx hb hdg hva (k H locs ls hI hS hL)
theorem z_pop (C : Cx X D B own cc ret hh nm post px rm) {va : Value} (hdg : decode cc pc = .ok (.pop, 1)) (hva : va.category = 1) (k : Z X (pc + 1) L ((rest)) G n0 k0) : Z X pc L ((va :: rest)) G n0 k0 := by
  obtain ⟨p, l, e, R, s, m, args, below, meth, c, Q, D0, B0, nL⟩ := X
  obtain ⟨hx, hb, hml, hown, hts, -, -, -, -, -, -, rfl, rfl, rfl, rfl, -⟩ := C
  intro H locs ls hI hS hL
  exact lv_pop hx hb hdg hva (k H locs ls hI hS hL)
theorem z_dup_x1 (C : Cx X D B own cc ret hh nm post px rm) {va vb : Value} (hdg : decode cc pc = .ok (.dup_x1, 1)) (hva : va.category = 1) (hvb : vb.category = 1) (k : Z X (pc + 1) L ((va :: vb :: va :: rest)) G n0 k0) : Z X pc L ((va :: vb :: rest)) G n0 k0 := by
  obtain ⟨p, l, e, R, s, m, args, below, meth, c, Q, D0, B0, nL⟩ := X
  obtain ⟨hx, hb, hml, hown, hts, -, -, -, -, -, -, rfl, rfl, rfl, rfl, -⟩ := C
  intro H locs ls hI hS hL
  exact lv_dup_x1 hx hb hdg hva hvb (k H locs ls hI hS hL)
theorem z_dup_x2 (C : Cx X D B own cc ret hh nm post px rm) {va vb vd : Value} (hdg : decode cc pc = .ok (.dup_x2, 1)) (hva : va.category = 1) (hvb : vb.category = 1) (hvd : vd.category = 1) (k : Z X (pc + 1) L ((va :: vb :: vd :: va :: rest)) G n0 k0) : Z X pc L ((va :: vb :: vd :: rest)) G n0 k0 := by
  obtain ⟨p, l, e, R, s, m, args, below, meth, c, Q, D0, B0, nL⟩ := X
  obtain ⟨hx, hb, hml, hown, hts, -, -, -, -, -, -, rfl, rfl, rfl, rfl, -⟩ := C
  intro H locs ls hI hS hL
  exact lv_dup_x2 hx hb hdg hva hvb hvd (k H locs ls hI hS hL)
theorem z_dup2_11 (C : Cx X D B own cc ret hh nm post px rm) {va vb : Value} (hdg : decode cc pc = .ok (.dup2, 1)) (hva : va.category = 1) (hvb : vb.category = 1) (k : Z X (pc + 1) L ((va :: vb :: va :: vb :: rest)) G n0 k0) : Z X pc L ((va :: vb :: rest)) G n0 k0 := by
  obtain ⟨p, l, e, R, s, m, args, below, meth, c, Q, D0, B0, nL⟩ := X
  obtain ⟨hx, hb, hml, hown, hts, -, -, -, -, -, -, rfl, rfl, rfl, rfl, -⟩ := C
  intro H locs ls hI hS hL
  exact lv_dup2_11 hx hb hdg hva hvb (k H locs ls hI hS hL)
theorem z_dup2_2 (C : Cx X D B own cc ret hh nm post px rm) {va : Value} (hdg : decode cc pc = .ok (.dup2, 1)) (hva : va.category = 2) (k : Z X (pc + 1) L ((va :: va :: rest)) G n0 k0) : Z X pc L ((va :: rest)) G n0 k0 := by
  obtain ⟨p, l, e, R, s, m, args, below, meth, c, Q, D0, B0, nL⟩ := X
  obtain ⟨hx, hb, hml, hown, hts, -, -, -, -, -, -, rfl, rfl, rfl, rfl, -⟩ := C
  intro H locs ls hI hS hL
  exact lv_dup2_2 hx hb hdg hva (k H locs ls hI hS hL)
theorem z_pop2_2 (C : Cx X D B own cc ret hh nm post px rm) {va : Value} (hdg : decode cc pc = .ok (.pop2, 1)) (hva : va.category = 2) (k : Z X (pc + 1) L ((rest)) G n0 k0) : Z X pc L ((va :: rest)) G n0 k0 := by
  obtain ⟨p, l, e, R, s, m, args, below, meth, c, Q, D0, B0, nL⟩ := X
  obtain ⟨hx, hb, hml, hown, hts, -, -, -, -, -, -, rfl, rfl, rfl, rfl, -⟩ := C
  intro H locs ls hI hS hL
  exact lv_pop2_2 hx hb hdg hva (k H locs ls hI hS hL)
theorem z_if_eq (C : Cx X D B own cc ret hh nm post px rm) {x : Int32} {off : Int} {tgt : Nat} (hdg : decode cc pc = .ok (.ifCond .eq off, 3)) (ht : (pc : Int) + off = (tgt : Int)) (kt : x = 0 → Z X tgt L (rest) G n0 k0) (kf : ¬ x = 0 → Z X (pc + 3) L (rest) G n0 k0) : Z X pc L ((.int x :: rest)) G n0 k0 := by
  obtain ⟨p, l, e, R, s, m, args, below, meth, c, Q, D0, B0, nL⟩ := X
  obtain ⟨hx, hb, hml, hown, hts, -, -, -, -, -, -, rfl, rfl, rfl, rfl, -⟩ := C
  intro H locs ls hI hS hL
  exact lv_if_eq hx hb hdg ht (fun q9 => kt q9 H locs ls hI hS hL) (fun q9 => kf q9 H locs ls hI hS hL)
theorem z_icmp_eq (C : Cx X D B own cc ret hh nm post px rm) {x y : Int32} {off : Int} {tgt : Nat} (hdg : decode cc pc = .ok (.if_icmp .eq off, 3)) (ht : (pc : Int) + off = (tgt : Int)) (kt : x = y → Z X tgt L (rest) G n0 k0) (kf : ¬ x = y → Z X (pc + 3) L (rest) G n0 k0) : Z X pc L ((.int y :: .int x :: rest)) G n0 k0 := by
  obtain ⟨p, l, e, R, s, m, args, below, meth, c, Q, D0, B0, nL⟩ := X
  obtain ⟨hx, hb, hml, hown, hts, -, -, -, -, -, -, rfl, rfl, rfl, rfl, -⟩ := C
  intro H locs ls hI hS hL
  exact lv_icmp_eq hx hb hdg ht (fun q9 => kt q9 H locs ls hI hS hL) (fun q9 => kf q9 H locs ls hI hS hL)
theorem z_if_ne (C : Cx X D B own cc ret hh nm post px rm) {x : Int32} {off : Int} {tgt : Nat} (hdg : decode cc pc = .ok (.ifCond .ne off, 3)) (ht : (pc : Int) + off = (tgt : Int)) (kt : ¬ x = 0 → Z X tgt L (rest) G n0 k0) (kf : x = 0 → Z X (pc + 3) L (rest) G n0 k0) : Z X pc L ((.int x :: rest)) G n0 k0 := by
  obtain ⟨p, l, e, R, s, m, args, below, meth, c, Q, D0, B0, nL⟩ := X
  obtain ⟨hx, hb, hml, hown, hts, -, -, -, -, -, -, rfl, rfl, rfl, rfl, -⟩ := C
  intro H locs ls hI hS hL
  exact lv_if_ne hx hb hdg ht (fun q9 => kt q9 H locs ls hI hS hL) (fun q9 => kf q9 H locs ls hI hS hL)
theorem z_icmp_ne (C : Cx X D B own cc ret hh nm post px rm) {x y : Int32} {off : Int} {tgt : Nat} (hdg : decode cc pc = .ok (.if_icmp .ne off, 3)) (ht : (pc : Int) + off = (tgt : Int)) (kt : ¬ x = y → Z X tgt L (rest) G n0 k0) (kf : x = y → Z X (pc + 3) L (rest) G n0 k0) : Z X pc L ((.int y :: .int x :: rest)) G n0 k0 := by
  obtain ⟨p, l, e, R, s, m, args, below, meth, c, Q, D0, B0, nL⟩ := X
  obtain ⟨hx, hb, hml, hown, hts, -, -, -, -, -, -, rfl, rfl, rfl, rfl, -⟩ := C
  intro H locs ls hI hS hL
  exact lv_icmp_ne hx hb hdg ht (fun q9 => kt q9 H locs ls hI hS hL) (fun q9 => kf q9 H locs ls hI hS hL)
theorem z_if_lt (C : Cx X D B own cc ret hh nm post px rm) {x : Int32} {off : Int} {tgt : Nat} (hdg : decode cc pc = .ok (.ifCond .lt off, 3)) (ht : (pc : Int) + off = (tgt : Int)) (kt : x < 0 → Z X tgt L (rest) G n0 k0) (kf : ¬ x < 0 → Z X (pc + 3) L (rest) G n0 k0) : Z X pc L ((.int x :: rest)) G n0 k0 := by
  obtain ⟨p, l, e, R, s, m, args, below, meth, c, Q, D0, B0, nL⟩ := X
  obtain ⟨hx, hb, hml, hown, hts, -, -, -, -, -, -, rfl, rfl, rfl, rfl, -⟩ := C
  intro H locs ls hI hS hL
  exact lv_if_lt hx hb hdg ht (fun q9 => kt q9 H locs ls hI hS hL) (fun q9 => kf q9 H locs ls hI hS hL)
theorem z_icmp_lt (C : Cx X D B own cc ret hh nm post px rm) {x y : Int32} {off : Int} {tgt : Nat} (hdg : decode cc pc = .ok (.if_icmp .lt off, 3)) (ht : (pc : Int) + off = (tgt : Int)) (kt : x < y → Z X tgt L (rest) G n0 k0) (kf : ¬ x < y → Z X (pc + 3) L (rest) G n0 k0) : Z X pc L ((.int y :: .int x :: rest)) G n0 k0 := by
  obtain ⟨p, l, e, R, s, m, args, below, meth, c, Q, D0, B0, nL⟩ := X
  obtain ⟨hx, hb, hml, hown, hts, -, -, -, -, -, -, rfl, rfl, rfl, rfl, -⟩ := C
  intro H locs ls hI hS hL
  exact lv_icmp_lt hx hb hdg ht (fun q9 => kt q9 H locs ls hI hS hL) (fun q9 => kf q9 H locs ls hI hS hL)
theorem z_if_ge (C : Cx X D B own cc ret hh nm post px rm) {x : Int32} {off : Int} {tgt : Nat} (hdg : decode cc pc = .ok (.ifCond .ge off, 3)) (ht : (pc : Int) + off = (tgt : Int)) (kt : 0 ≤ x → Z X tgt L (rest) G n0 k0) (kf : ¬ 0 ≤ x → Z X (pc + 3) L (rest) G n0 k0) : Z X pc L ((.int x :: rest)) G n0 k0 := by
  obtain ⟨p, l, e, R, s, m, args, below, meth, c, Q, D0, B0, nL⟩ := X
  obtain ⟨hx, hb, hml, hown, hts, -, -, -, -, -, -, rfl, rfl, rfl, rfl, -⟩ := C
  intro H locs ls hI hS hL
  exact lv_if_ge hx hb hdg ht (fun q9 => kt q9 H locs ls hI hS hL) (fun q9 => kf q9 H locs ls hI hS hL)
theorem z_icmp_ge (C : Cx X D B own cc ret hh nm post px rm) {x y : Int32} {off : Int} {tgt : Nat} (hdg : decode cc pc = .ok (.if_icmp .ge off, 3)) (ht : (pc : Int) + off = (tgt : Int)) (kt : y ≤ x → Z X tgt L (rest) G n0 k0) (kf : ¬ y ≤ x → Z X (pc + 3) L (rest) G n0 k0) : Z X pc L ((.int y :: .int x :: rest)) G n0 k0 := by
  obtain ⟨p, l, e, R, s, m, args, below, meth, c, Q, D0, B0, nL⟩ := X
  obtain ⟨hx, hb, hml, hown, hts, -, -, -, -, -, -, rfl, rfl, rfl, rfl, -⟩ := C
  intro H locs ls hI hS hL
  exact lv_icmp_ge hx hb hdg ht (fun q9 => kt q9 H locs ls hI hS hL) (fun q9 => kf q9 H locs ls hI hS hL)
theorem z_if_gt (C : Cx X D B own cc ret hh nm post px rm) {x : Int32} {off : Int} {tgt : Nat} (hdg : decode cc pc = .ok (.ifCond .gt off, 3)) (ht : (pc : Int) + off = (tgt : Int)) (kt : 0 < x → Z X tgt L (rest) G n0 k0) (kf : ¬ 0 < x → Z X (pc + 3) L (rest) G n0 k0) : Z X pc L ((.int x :: rest)) G n0 k0 := by
  obtain ⟨p, l, e, R, s, m, args, below, meth, c, Q, D0, B0, nL⟩ := X
  obtain ⟨hx, hb, hml, hown, hts, -, -, -, -, -, -, rfl, rfl, rfl, rfl, -⟩ := C
  intro H locs ls hI hS hL
  exact lv_if_gt hx hb hdg ht (fun q9 => kt q9 H locs ls hI hS hL) (fun q9 => kf q9 H locs ls hI hS hL)
theorem z_icmp_gt (C : Cx X D B own cc ret hh nm post px rm) {x y : Int32} {off : Int} {tgt : Nat} (hdg : decode cc pc = .ok (.if_icmp .gt off, 3)) (ht : (pc : Int) + off = (tgt : Int)) (kt : y < x → Z X tgt L (rest) G n0 k0) (kf : ¬ y < x → Z X (pc + 3) L (rest) G n0 k0) : Z X pc L ((.int y :: .int x :: rest)) G n0 k0 := by
  obtain ⟨p, l, e, R, s, m, args, below, meth, c, Q, D0, B0, nL⟩ := X
  obtain ⟨hx, hb, hml, hown, hts, -, -, -, -, -, -, rfl, rfl, rfl, rfl, -⟩ := C
  intro H locs ls hI hS hL
  exact lv_icmp_gt hx hb hdg ht (fun q9 => kt q9 H locs ls hI hS hL) (fun q9 => kf q9 H locs ls hI hS hL)
theorem z_if_le (C : Cx X D B own cc ret hh nm post px rm) {x : Int32} {off : Int} {tgt : Nat} (hdg : decode cc pc = .ok (.ifCond .le off, 3)) (ht : (pc : Int) + off = (tgt : Int)) (kt : x ≤ 0 → Z X tgt L (rest) G n0 k0) (kf : ¬ x ≤ 0 → Z X (pc + 3) L (rest) G n0 k0) : Z X pc L ((.int x :: rest)) G n0 k0 := by
  obtain ⟨p, l, e, R, s, m, args, below, meth, c, Q, D0, B0, nL⟩ := X
  obtain ⟨hx, hb, hml, hown, hts, -, -, -, -, -, -, rfl, rfl, rfl, rfl, -⟩ := C
  intro H locs ls hI hS hL
  exact lv_if_le hx hb hdg ht (fun q9 => kt q9 H locs ls hI hS hL) (fun q9 => kf q9 H locs ls hI hS hL)
theorem z_icmp_le (C : Cx X D B own cc ret hh nm post px rm) {x y : Int32} {off : Int} {tgt : Nat} (hdg : decode cc pc = .ok (.if_icmp .le off, 3)) (ht : (pc : Int) + off = (tgt : Int)) (kt : x ≤ y → Z X tgt L (rest) G n0 k0) (kf : ¬ x ≤ y → Z X (pc + 3) L (rest) G n0 k0) : Z X pc L ((.int y :: .int x :: rest)) G n0 k0 := by
  obtain ⟨p, l, e, R, s, m, args, below, meth, c, Q, D0, B0, nL⟩ := X
  obtain ⟨hx, hb, hml, hown, hts, -, -, -, -, -, -, rfl, rfl, rfl, rfl, -⟩ := C
  intro H locs ls hI hS hL
  exact lv_icmp_le hx hb hdg ht (fun q9 => kt q9 H locs ls hI hS hL) (fun q9 => kf q9 H locs ls hI hS hL)
theorem z_goto (C : Cx X D B own cc ret hh nm post px rm) {off : Int} {tgt : Nat} (hdg : decode cc pc = .ok (.goto off, 3)) (ht : (pc : Int) + off = (tgt : Int)) (k : Z X tgt L (rest) G n0 k0) : Z X pc L (rest) G n0 k0 := by
  obtain ⟨p, l, e, R, s, m, args, below, meth, c, Q, D0, B0, nL⟩ := X
  obtain ⟨hx, hb, hml, hown, hts, -, -, -, -, -, -, rfl, rfl, rfl, rfl, -⟩ := C
  intro H locs ls hI hS hL
  exact lv_goto hx hb hdg ht (k H locs ls hI hS hL)
theorem z_fconst0 (C : Cx X D B own cc ret hh nm post px rm) (hdg : decode cc pc = .ok (.fconst 0, 1)) (k : Z X (pc + 1) L ((.float FP.fconst0 :: rest)) G n0 k0) : Z X pc L ((rest)) G n0 k0 := by
  obtain ⟨p, l, e, R, s, m, args, below, meth, c, Q, D0, B0, nL⟩ := X
  obtain ⟨hx, hb, hml, hown, hts, -, -, -, -, -, -, rfl, rfl, rfl, rfl, -⟩ := C
  intro H locs ls hI hS hL
  exact lv_fconst0 hx hb hdg (k H locs ls hI hS hL)
theorem z_dconst0 (C : Cx X D B own cc ret hh nm post px rm) (hdg : decode cc pc = .ok (.dconst 0, 1)) (k : Z X (pc + 1) L ((.double FP.dconst0 :: rest)) G n0 k0) : Z X pc L ((rest)) G n0 k0 := by
  obtain ⟨p, l, e, R, s, m, args, below, meth, c, Q, D0, B0, nL⟩ := X
  obtain ⟨hx, hb, hml, hown, hts, -, -, -, -, -, -, rfl, rfl, rfl, rfl, -⟩ := C
  intro H locs ls hI hS hL
  exact lv_dconst0 hx hb hdg (k H locs ls hI hS hL)
theorem z_dconst1 (C : Cx X D B own cc ret hh nm post px rm) (hdg : decode cc pc = .ok (.dconst 1, 1)) (k : Z X (pc + 1) L ((.double FP.dconst1 :: rest)) G n0 k0) : Z X pc L ((rest)) G n0 k0 := by
  obtain ⟨p, l, e, R, s, m, args, below, meth, c, Q, D0, B0, nL⟩ := X
  obtain ⟨hx, hb, hml, hown, hts, -, -, -, -, -, -, rfl, rfl, rfl, rfl, -⟩ := C
  intro H locs ls hI hS hL
  exact lv_dconst1 hx hb hdg (k H locs ls hI hS hL)
theorem z_fload_n (C : Cx X D B own cc ret hh nm post px rm) {k : Fin 4} {i : Nat} {x : UInt32} (hdg : decode cc pc = .ok (.fload_n k, 1)) (hi : (k : Nat) = i) (hl : L[i]? = some (some (.float x))) (k : Z X (pc + 1) L ((.float x :: rest)) G n0 k0) : Z X pc L ((rest)) G n0 k0 := by
  obtain ⟨p, l, e, R, s, m, args, below, meth, c, Q, D0, B0, nL⟩ := X
  obtain ⟨hx, hb, hml, hown, hts, -, -, -, -, -, -, rfl, rfl, rfl, rfl, -⟩ := C
  intro H locs ls hI hS hL
  exact lv_fload_n hx hb hdg hi (hL.at hl) (k H locs ls hI hS hL)
theorem z_fload (C : Cx X D B own cc ret hh nm post px rm) {i : Nat} {x : UInt32} (hdg : decode cc pc = .ok (.fload i, 2)) (hl : L[i]? = some (some (.float x))) (k : Z X (pc + 2) L ((.float x :: rest)) G n0 k0) : Z X pc L ((rest)) G n0 k0 := by
  obtain ⟨p, l, e, R, s, m, args, below, meth, c, Q, D0, B0, nL⟩ := X
  obtain ⟨hx, hb, hml, hown, hts, -, -, -, -, -, -, rfl, rfl, rfl, rfl, -⟩ := C
  intro H locs ls hI hS hL
  exact lv_fload hx hb hdg (hL.at hl) (k H locs ls hI hS hL)
theorem z_dload_n (C : Cx X D B own cc ret hh nm post px rm) {k : Fin 4} {i : Nat} {x : UInt64} (hdg : decode cc pc = .ok (.dload_n k, 1)) (hi : (k : Nat) = i) (hl : L[i]? = some (some (.double x))) (k : Z X (pc + 1) L ((.double x :: rest)) G n0 k0) : Z X pc L ((rest)) G n0 k0 := by
  obtain ⟨p, l, e, R, s, m, args, below, meth, c, Q, D0, B0, nL⟩ := X
  obtain ⟨hx, hb, hml, hown, hts, -, -, -, -, -, -, rfl, rfl, rfl, rfl, -⟩ := C
  intro H locs ls hI hS hL
  exact lv_dload_n hx hb hdg hi (hL.at hl) (k H locs ls hI hS hL)
theorem z_dload (C : Cx X D B own cc ret hh nm post px rm) {i : Nat} {x : UInt64} (hdg : decode cc pc = .ok (.dload i, 2)) (hl : L[i]? = some (some (.double x))) (k : Z X (pc + 2) L ((.double x :: rest)) G n0 k0) : Z X pc L ((rest)) G n0 k0 := by
  obtain ⟨p, l, e, R, s, m, args, below, meth, c, Q, D0, B0, nL⟩ := X
  obtain ⟨hx, hb, hml, hown, hts, -, -, -, -, -, -, rfl, rfl, rfl, rfl, -⟩ := C
  intro H locs ls hI hS hL
  exact lv_dload hx hb hdg (hL.at hl) (k H locs ls hI hS hL)
theorem z_dadd (C : Cx X D B own cc ret hh nm post px rm) {x y : UInt64} (hdg : decode cc pc = .ok (.dadd, 1)) (hne : vf_n64 (FP.dadd x y)) (k : Z X (pc + 1) L ((.double (FP.dadd x y) :: rest)) G n0 k0) : Z X pc L ((.double y :: .double x :: rest)) G n0 k0 := by
  obtain ⟨p, l, e, R, s, m, args, below, meth, c, Q, D0, B0, nL⟩ := X
  obtain ⟨hx, hb, hml, hown, hts, -, -, -, -, -, -, rfl, rfl, rfl, rfl, -⟩ := C
  intro H locs ls hI hS hL
  exact lv_dadd hx hb hdg hne (k H locs ls hI hS hL)
theorem z_dmul (C : Cx X D B own cc ret hh nm post px rm) {x y : UInt64} (hdg : decode cc pc = .ok (.dmul, 1)) (hne : vf_n64 (FP.dmul x y)) (k : Z X (pc + 1) L ((.double (FP.dmul x y) :: rest)) G n0 k0) : Z X pc L ((.double y :: .double x :: rest)) G n0 k0 := by
  obtain ⟨p, l, e, R, s, m, args, below, meth, c, Q, D0, B0, nL⟩ := X
  obtain ⟨hx, hb, hml, hown, hts, -, -, -, -, -, -, rfl, rfl, rfl, rfl, -⟩ := C
  intro H locs ls hI hS hL
  exact lv_dmul hx hb hdg hne (k H locs ls hI hS hL)
theorem z_ddiv (C : Cx X D B own cc ret hh nm post px rm) {x y : UInt64} (hdg : decode cc pc = .ok (.ddiv, 1)) (hne : vf_n64 (FP.ddiv x y)) (k : Z X (pc + 1) L ((.double (FP.ddiv x y) :: rest)) G n0 k0) : Z X pc L ((.double y :: .double x :: rest)) G n0 k0 := by
  obtain ⟨p, l, e, R, s, m, args, below, meth, c, Q, D0, B0, nL⟩ := X
  obtain ⟨hx, hb, hml, hown, hts, -, -, -, -, -, -, rfl, rfl, rfl, rfl, -⟩ := C
  intro H locs ls hI hS hL
  exact lv_ddiv hx hb hdg hne (k H locs ls hI hS hL)
theorem z_fcmp (C : Cx X D B own cc ret hh nm post px rm) {x y : UInt32} {op : CmpOp} (hdg : decode cc pc = .ok (.fcmp op, 1)) (k : Z X (pc + 1) L ((.int (Op.cmpValue (FP.fcmp x y) op) :: rest)) G n0 k0) : Z X pc L ((.float y :: .float x :: rest)) G n0 k0 := by
  obtain ⟨p, l, e, R, s, m, args, below, meth, c, Q, D0, B0, nL⟩ := X
  obtain ⟨hx, hb, hml, hown, hts, -, -, -, -, -, -, rfl, rfl, rfl, rfl, -⟩ := C
  intro H locs ls hI hS hL
  exact lv_fcmp hx hb hdg (k H locs ls hI hS hL)
theorem z_dcmp (C : Cx X D B own cc ret hh nm post px rm) {x y : UInt64} {op : CmpOp} (hdg : decode cc pc = .ok (.dcmp op, 1)) (k : Z X (pc + 1) L ((.int (Op.cmpValue (FP.dcmp x y) op) :: rest)) G n0 k0) : Z X pc L ((.double y :: .double x :: rest)) G n0 k0 := by
  obtain ⟨p, l, e, R, s, m, args, below, meth, c, Q, D0, B0, nL⟩ := X
  obtain ⟨hx, hb, hml, hown, hts, -, -, -, -, -, -, rfl, rfl, rfl, rfl, -⟩ := C
  intro H locs ls hI hS hL
  exact lv_dcmp hx hb hdg (k H locs ls hI hS hL)
theorem z_i2d (C : Cx X D B own cc ret hh nm post px rm) {x : Int32} (hdg : decode cc pc = .ok (.i2d, 1)) (k : Z X (pc + 1) L ((.double (FP.i2d x) :: rest)) G n0 k0) : Z X pc L ((.int x :: rest)) G n0 k0 := by
  obtain ⟨p, l, e, R, s, m, args, below, meth, c, Q, D0, B0, nL⟩ := X
  obtain ⟨hx, hb, hml, hown, hts, -, -, -, -, -, -, rfl, rfl, rfl, rfl, -⟩ := C
  intro H locs ls hI hS hL
  exact lv_i2d hx hb hdg (k H locs ls hI hS hL)
theorem z_l2d (C : Cx X D B own cc ret hh nm post px rm) {x : Int64} (hdg : decode cc pc = .ok (.l2d, 1)) (k : Z X (pc + 1) L ((.double (FP.l2d x) :: rest)) G n0 k0) : Z X pc L ((.long x :: rest)) G n0 k0 := by
  obtain ⟨p, l, e, R, s, m, args, below, meth, c, Q, D0, B0, nL⟩ := X
  obtain ⟨hx, hb, hml, hown, hts, -, -, -, -, -, -, rfl, rfl, rfl, rfl, -⟩ := C
  intro H locs ls hI hS hL
  exact lv_l2d hx hb hdg (k H locs ls hI hS hL)
theorem z_f2d (C : Cx X D B own cc ret hh nm post px rm) {x : UInt32} (hdg : decode cc pc = .ok (.f2d, 1)) (hne : vf_n64 (FP.f2d x)) (k : Z X (pc + 1) L ((.double (FP.f2d x) :: rest)) G n0 k0) : Z X pc L ((.float x :: rest)) G n0 k0 := by
  obtain ⟨p, l, e, R, s, m, args, below, meth, c, Q, D0, B0, nL⟩ := X
  obtain ⟨hx, hb, hml, hown, hts, -, -, -, -, -, -, rfl, rfl, rfl, rfl, -⟩ := C
  intro H locs ls hI hS hL
  exact lv_f2d hx hb hdg hne (k H locs ls hI hS hL)
theorem z_d2f (C : Cx X D B own cc ret hh nm post px rm) {x : UInt64} (hdg : decode cc pc = .ok (.d2f, 1)) (hne : vf_n32 (FP.d2f x)) (k : Z X (pc + 1) L ((.float (FP.d2f x) :: rest)) G n0 k0) : Z X pc L ((.double x :: rest)) G n0 k0 := by
  obtain ⟨p, l, e, R, s, m, args, below, meth, c, Q, D0, B0, nL⟩ := X
  obtain ⟨hx, hb, hml, hown, hts, -, -, -, -, -, -, rfl, rfl, rfl, rfl, -⟩ := C
  intro H locs ls hI hS hL
  exact lv_d2f hx hb hdg hne (k H locs ls hI hS hL)
theorem z_lookup (C : Cx X D B own cc ret hh nm post px rm) {dflt : Int} {ps : Array (Int × Int)} {len : Nat} {x : Int32} {off : Int} {tgt : Nat} (hdg : decode cc pc = .ok (.lookupswitch dflt ps, len)) (hp : (ps.toList.zip (ps.toList.drop 1)).all (fun (a, next) => a.1 < next.1) = true) (ho : Op.lookupswitch.offset ps.toList dflt x.toInt = off) (ht : (pc : Int) + off = (tgt : Int)) (k : Z X tgt L (rest) G n0 k0) : Z X pc L ((.int x :: rest)) G n0 k0 := by
  obtain ⟨p, l, e, R, s, m, args, below, meth, c, Q, D0, B0, nL⟩ := X
  obtain ⟨hx, hb, hml, hown, hts, -, -, -, -, -, -, rfl, rfl, rfl, rfl, -⟩ := C
  intro H locs ls hI hS hL
  exact lv_lookup hx hb hdg hp ho ht (k H locs ls hI hS hL)
theorem z_tableOut (C : Cx X D B own cc ret hh nm post px rm) {dflt lo hi : Int} {offs : Array Int} {len : Nat} {x : Int32} {tgt : Nat} (hdg : decode cc pc = .ok (.tableswitch dflt lo hi offs, len)) (h : x.toInt < lo ∨ hi < x.toInt) (ht : (pc : Int) + dflt = (tgt : Int)) (k : Z X tgt L (rest) G n0 k0) : Z X pc L ((.int x :: rest)) G n0 k0 := by
  obtain ⟨p, l, e, R, s, m, args, below, meth, c, Q, D0, B0, nL⟩ := X
  obtain ⟨hx, hb, hml, hown, hts, -, -, -, -, -, -, rfl, rfl, rfl, rfl, -⟩ := C
  intro H locs ls hI hS hL
  exact lv_tableOut hx hb hdg h ht (k H locs ls hI hS hL)
theorem z_tableIn (C : Cx X D B own cc ret hh nm post px rm) {dflt lo hi : Int} {offs : Array Int} {len : Nat} {x : Int32} {off : Int} {tgt : Nat} (hdg : decode cc pc = .ok (.tableswitch dflt lo hi offs, len)) (h1 : ¬ x.toInt < lo) (h2 : ¬ hi < x.toInt) (ho : offs[(x.toInt - lo).toNat]? = some off) (ht : (pc : Int) + off = (tgt : Int)) (k : Z X tgt L (rest) G n0 k0) : Z X pc L ((.int x :: rest)) G n0 k0 := by
  obtain ⟨p, l, e, R, s, m, args, below, meth, c, Q, D0, B0, nL⟩ := X
  obtain ⟨hx, hb, hml, hown, hts, -, -, -, -, -, -, rfl, rfl, rfl, rfl, -⟩ := C
  intro H locs ls hI hS hL
  exact lv_tableIn hx hb hdg h1 h2 ho ht (k H locs ls hI hS hL)
theorem z_ifnonnull (C : Cx X D B own cc ret hh nm post px rm) {x : Nat} {off : Int} {tgt : Nat} (hdg : decode cc pc = .ok (.ifnonnull off, 3)) (ht : (pc : Int) + off = (tgt : Int)) (k : Z X tgt L (rest) G n0 k0) : Z X pc L ((.ref x :: rest)) G n0 k0 := by
  obtain ⟨p, l, e, R, s, m, args, below, meth, c, Q, D0, B0, nL⟩ := X
  obtain ⟨hx, hb, hml, hown, hts, -, -, -, -, -, -, rfl, rfl, rfl, rfl, -⟩ := C
  intro H locs ls hI hS hL
  exact lv_ifnonnull hx hb hdg ht (k H locs ls hI hS hL)
theorem z_ifnull (C : Cx X D B own cc ret hh nm post px rm) {x : Nat} {off : Int} (hdg : decode cc pc = .ok (.ifnull off, 3)) (k : Z X (pc + 3) L (rest) G n0 k0) : Z X pc L ((.ref x :: rest)) G n0 k0 := by
  obtain ⟨p, l, e, R, s, m, args, below, meth, c, Q, D0, B0, nL⟩ := X
  obtain ⟨hx, hb, hml, hown, hts, -, -, -, -, -, -, rfl, rfl, rfl, rfl, -⟩ := C
  intro H locs ls hI hS hL
  exact lv_ifnull hx hb hdg (k H locs ls hI hS hL)
theorem z_null (C : Cx X D B own cc ret hh nm post px rm) (hdg : decode cc pc = .ok (.aconst_null, 1)) (k : Z X (pc + 1) L ((.null :: rest)) G n0 k0) : Z X pc L (rest) G n0 k0 := by
  obtain ⟨p, l, e, R, s, m, args, below, meth, c, Q, D0, B0, nL⟩ := X
  obtain ⟨hx, hb, hml, hown, hts, -, -, -, -, -, -, rfl, rfl, rfl, rfl, -⟩ := C
  intro H locs ls hI hS hL
  exact lv_null hx hb hdg (k H locs ls hI hS hL)
theorem z_ifnullN (C : Cx X D B own cc ret hh nm post px rm) {off : Int} {tgt : Nat} (hdg : decode cc pc = .ok (.ifnull off, 3)) (ht : (pc : Int) + off = (tgt : Int)) (k : Z X tgt L (rest) G n0 k0) : Z X pc L ((.null :: rest)) G n0 k0 := by
  obtain ⟨p, l, e, R, s, m, args, below, meth, c, Q, D0, B0, nL⟩ := X
  obtain ⟨hx, hb, hml, hown, hts, -, -, -, -, -, -, rfl, rfl, rfl, rfl, -⟩ := C
  intro H locs ls hI hS hL
  exact lv_ifnullN hx hb hdg ht (k H locs ls hI hS hL)
theorem z_ifnonnullN (C : Cx X D B own cc ret hh nm post px rm) {off : Int} (hdg : decode cc pc = .ok (.ifnonnull off, 3)) (k : Z X (pc + 3) L (rest) G n0 k0) : Z X pc L ((.null :: rest)) G n0 k0 := by
  obtain ⟨p, l, e, R, s, m, args, below, meth, c, Q, D0, B0, nL⟩ := X
  obtain ⟨hx, hb, hml, hown, hts, -, -, -, -, -, -, rfl, rfl, rfl, rfl, -⟩ := C
  intro H locs ls hI hS hL
  exact lv_ifnonnullN hx hb hdg (k H locs ls hI hS hL)
theorem z_acmp_eq (C : Cx X D B own cc ret hh nm post px rm) {rx ry : Option Nat} {off : Int} {tgt : Nat} (hdg : decode cc pc = .ok (.if_acmp .eq off, 3)) (ht : (pc : Int) + off = (tgt : Int)) (kt : rx = ry → Z X tgt L (rest) G n0 k0) (kf : ¬ rx = ry → Z X (pc + 3) L (rest) G n0 k0) : Z X pc L ((va_rf ry :: va_rf rx :: rest)) G n0 k0 := by
  obtain ⟨p, l, e, R, s, m, args, below, meth, c, Q, D0, B0, nL⟩ := X
  obtain ⟨hx, hb, hml, hown, hts, -, -, -, -, -, -, rfl, rfl, rfl, rfl, -⟩ := C
  intro H locs ls hI hS hL
  exact lv_acmp_eq hx hb hdg ht (fun q9 => kt q9 H locs ls hI hS hL) (fun q9 => kf q9 H locs ls hI hS hL)
theorem z_acmp_ne (C : Cx X D B own cc ret hh nm post px rm) {rx ry : Option Nat} {off : Int} {tgt : Nat} (hdg : decode cc pc = .ok (.if_acmp .ne off, 3)) (ht : (pc : Int) + off = (tgt : Int)) (kt : ¬ rx = ry → Z X tgt L (rest) G n0 k0) (kf : rx = ry → Z X (pc + 3) L (rest) G n0 k0) : Z X pc L ((va_rf ry :: va_rf rx :: rest)) G n0 k0 := by
  obtain ⟨p, l, e, R, s, m, args, below, meth, c, Q, D0, B0, nL⟩ := X
  obtain ⟨hx, hb, hml, hown, hts, -, -, -, -, -, -, rfl, rfl, rfl, rfl, -⟩ := C
  intro H locs ls hI hS hL
  exact lv_acmp_ne hx hb hdg ht (fun q9 => kt q9 H locs ls hI hS hL) (fun q9 => kf q9 H locs ls hI hS hL)
theorem z_castN (C : Cx X D B own cc ret hh nm post px rm) {index : Nat} (hdg : decode cc pc = .ok (.checkcast index, 3)) (k : Z X (pc + 3) L ((.null :: rest)) G n0 k0) : Z X pc L ((.null :: rest)) G n0 k0 := by
  obtain ⟨p, l, e, R, s, m, args, below, meth, c, Q, D0, B0, nL⟩ := X
  obtain ⟨hx, hb, hml, hown, hts, -, -, -, -, -, -, rfl, rfl, rfl, rfl, -⟩ := C
  intro H locs ls hI hS hL
  exact lv_castN hx hb hdg (k H locs ls hI hS hL)
theorem z_instN (C : Cx X D B own cc ret hh nm post px rm) {index : Nat} (hdg : decode cc pc = .ok (.instanceof index, 3)) (k : Z X (pc + 3) L ((.int 0 :: rest)) G n0 k0) : Z X pc L ((.null :: rest)) G n0 k0 := by
  obtain ⟨p, l, e, R, s, m, args, below, meth, c, Q, D0, B0, nL⟩ := X
  obtain ⟨hx, hb, hml, hown, hts, -, -, -, -, -, -, rfl, rfl, rfl, rfl, -⟩ := C
  intro H locs ls hI hS hL
  exact lv_instN hx hb hdg (k H locs ls hI hS hL)
theorem z_istore_n (C : Cx X D B own cc ret hh nm post px rm) {k : Fin 4} {i : Nat} {x : Int32} (hdg : decode cc pc = .ok (.istore_n k, 1)) (hi : (k : Nat) = i) (hn : i < L.length) (hok : zok L i = true) (kk : Z X (pc + 1) (zs1 L i (Value.int x)) (rest) G n0 k0) : Z X pc L ((.int x :: rest)) G n0 k0 := by
  obtain ⟨p, l, e, R, s, m, args, below, meth, c, Q, D0, B0, nL⟩ := X
  obtain ⟨hx, hb, hml, hown, hts, -, -, -, -, -, -, rfl, rfl, rfl, rfl, -⟩ := C
  intro H locs ls hI hS hL
  have hlen : L.length = nL := hL.1
  exact lv_istore_n hx hb hdg hi hL.has (by rw [← hlen]; exact hn) rfl (fun ls9 h9 => kk H locs ls9 hI hS (hL.s1 hok h9))
theorem z_istore (C : Cx X D B own cc ret hh nm post px rm) {i : Nat} {x : Int32} (hdg : decode cc pc = .ok (.istore i, 2)) (hn : i < L.length) (hok : zok L i = true) (kk : Z X (pc + 2) (zs1 L i (Value.int x)) (rest) G n0 k0) : Z X pc L ((.int x :: rest)) G n0 k0 := by
  obtain ⟨p, l, e, R, s, m, args, below, meth, c, Q, D0, B0, nL⟩ := X
  obtain ⟨hx, hb, hml, hown, hts, -, -, -, -, -, -, rfl, rfl, rfl, rfl, -⟩ := C
  intro H locs ls hI hS hL
  have hlen : L.length = nL := hL.1
  exact lv_istore hx hb hdg hL.has (by rw [← hlen]; exact hn) rfl (fun ls9 h9 => kk H locs ls9 hI hS (hL.s1 hok h9))
theorem z_lstore_n (C : Cx X D B own cc ret hh nm post px rm) {k : Fin 4} {i : Nat} {x : Int64} (hdg : decode cc pc = .ok (.lstore_n k, 1)) (hi : (k : Nat) = i) (hn : i + 1 < L.length) (hok : zok L i = true) (kk : Z X (pc + 1) (zs2 L i (Value.long x)) (rest) G n0 k0) : Z X pc L ((.long x :: rest)) G n0 k0 := by
  obtain ⟨p, l, e, R, s, m, args, below, meth, c, Q, D0, B0, nL⟩ := X
  obtain ⟨hx, hb, hml, hown, hts, -, -, -, -, -, -, rfl, rfl, rfl, rfl, -⟩ := C
  intro H locs ls hI hS hL
  have hlen : L.length = nL := hL.1
  exact lv_lstore_n hx hb hdg hi hL.has (by rw [← hlen]; exact hn) rfl (fun ls9 h9 => kk H locs ls9 hI hS (hL.s2 hok h9))
theorem z_lstore (C : Cx X D B own cc ret hh nm post px rm) {i : Nat} {x : Int64} (hdg : decode cc pc = .ok (.lstore i, 2)) (hn : i + 1 < L.length) (hok : zok L i = true) (kk : Z X (pc + 2) (zs2 L i (Value.long x)) (rest) G n0 k0) : Z X pc L ((.long x :: rest)) G n0 k0 := by
  obtain ⟨p, l, e, R, s, m, args, below, meth, c, Q, D0, B0, nL⟩ := X
  obtain ⟨hx, hb, hml, hown, hts, -, -, -, -, -, -, rfl, rfl, rfl, rfl, -⟩ := C
  intro H locs ls hI hS hL
  have hlen : L.length = nL := hL.1
  exact lv_lstore hx hb hdg hL.has (by rw [← hlen]; exact hn) rfl (fun ls9 h9 => kk H locs ls9 hI hS (hL.s2 hok h9))
theorem z_astore_n (C : Cx X D B own cc ret hh nm post px rm) {k : Fin 4} {i : Nat} {x : Nat} (hdg : decode cc pc = .ok (.astore_n k, 1)) (hi : (k : Nat) = i) (hn : i < L.length) (hok : zok L i = true) (kk : Z X (pc + 1) (zs1 L i (Value.ref x)) (rest) G n0 k0) : Z X pc L ((.ref x :: rest)) G n0 k0 := by
  obtain ⟨p, l, e, R, s, m, args, below, meth, c, Q, D0, B0, nL⟩ := X
  obtain ⟨hx, hb, hml, hown, hts, -, -, -, -, -, -, rfl, rfl, rfl, rfl, -⟩ := C
  intro H locs ls hI hS hL
  have hlen : L.length = nL := hL.1
  exact lv_astore_n hx hb hdg hi hL.has (by rw [← hlen]; exact hn) rfl (fun ls9 h9 => kk H locs ls9 hI hS (hL.s1 hok h9))
theorem z_astore (C : Cx X D B own cc ret hh nm post px rm) {i : Nat} {x : Nat} (hdg : decode cc pc = .ok (.astore i, 2)) (hn : i < L.length) (hok : zok L i = true) (kk : Z X (pc + 2) (zs1 L i (Value.ref x)) (rest) G n0 k0) : Z X pc L ((.ref x :: rest)) G n0 k0 := by
  obtain ⟨p, l, e, R, s, m, args, below, meth, c, Q, D0, B0, nL⟩ := X
  obtain ⟨hx, hb, hml, hown, hts, -, -, -, -, -, -, rfl, rfl, rfl, rfl, -⟩ := C
  intro H locs ls hI hS hL
  have hlen : L.length = nL := hL.1
  exact lv_astore hx hb hdg hL.has (by rw [← hlen]; exact hn) rfl (fun ls9 h9 => kk H locs ls9 hI hS (hL.s1 hok h9))
theorem z_astore_nN (C : Cx X D B own cc ret hh nm post px rm) {k : Fin 4} {i : Nat} (hdg : decode cc pc = .ok (.astore_n k, 1)) (hi : (k : Nat) = i) (hn : i < L.length) (hok : zok L i = true) (kk : Z X (pc + 1) (zs1 L i (Value.null)) (rest) G n0 k0) : Z X pc L ((.null :: rest)) G n0 k0 := by
  obtain ⟨p, l, e, R, s, m, args, below, meth, c, Q, D0, B0, nL⟩ := X
  obtain ⟨hx, hb, hml, hown, hts, -, -, -, -, -, -, rfl, rfl, rfl, rfl, -⟩ := C
  intro H locs ls hI hS hL
  have hlen : L.length = nL := hL.1
  exact lv_astore_nN hx hb hdg hi hL.has (by rw [← hlen]; exact hn) rfl (fun ls9 h9 => kk H locs ls9 hI hS (hL.s1 hok h9))
theorem z_astoreN (C : Cx X D B own cc ret hh nm post px rm) {i : Nat} (hdg : decode cc pc = .ok (.astore i, 2)) (hn : i < L.length) (hok : zok L i = true) (kk : Z X (pc + 2) (zs1 L i (Value.null)) (rest) G n0 k0) : Z X pc L ((.null :: rest)) G n0 k0 := by
  obtain ⟨p, l, e, R, s, m, args, below, meth, c, Q, D0, B0, nL⟩ := X
  obtain ⟨hx, hb, hml, hown, hts, -, -, -, -, -, -, rfl, rfl, rfl, rfl, -⟩ := C
  intro H locs ls hI hS hL
  have hlen : L.length = nL := hL.1
  exact lv_astoreN hx hb hdg hL.has (by rw [← hlen]; exact hn) rfl (fun ls9 h9 => kk H locs ls9 hI hS (hL.s1 hok h9))
theorem z_dstore_n (C : Cx X D B own cc ret hh nm post px rm) {k : Fin 4} {i : Nat} {x : UInt64} (hdg : decode cc pc = .ok (.dstore_n k, 1)) (hi : (k : Nat) = i) (hn : i + 1 < L.length) (hok : zok L i = true) (kk : Z X (pc + 1) (zs2 L i (Value.double x)) (rest) G n0 k0) : Z X pc L ((.double x :: rest)) G n0 k0 := by
  obtain ⟨p, l, e, R, s, m, args, below, meth, c, Q, D0, B0, nL⟩ := X
  obtain ⟨hx, hb, hml, hown, hts, -, -, -, -, -, -, rfl, rfl, rfl, rfl, -⟩ := C
  intro H locs ls hI hS hL
  have hlen : L.length = nL := hL.1
  exact lv_dstore_n hx hb hdg hi hL.has (by rw [← hlen]; exact hn) rfl (fun ls9 h9 => kk H locs ls9 hI hS (hL.s2 hok h9))
theorem z_dstore (C : Cx X D B own cc ret hh nm post px rm) {i : Nat} {x : UInt64} (hdg : decode cc pc = .ok (.dstore i, 2)) (hn : i + 1 < L.length) (hok : zok L i = true) (kk : Z X (pc + 2) (zs2 L i (Value.double x)) (rest) G n0 k0) : Z X pc L ((.double x :: rest)) G n0 k0 := by
  obtain ⟨p, l, e, R, s, m, args, below, meth, c, Q, D0, B0, nL⟩ := X
  obtain ⟨hx, hb, hml, hown, hts, -, -, -, -, -, -, rfl, rfl, rfl, rfl, -⟩ := C
  intro H locs ls hI hS hL
  have hlen : L.length = nL := hL.1
  exact lv_dstore hx hb hdg hL.has (by rw [← hlen]; exact hn) rfl (fun ls9 h9 => kk H locs ls9 hI hS (hL.s2 hok h9))
theorem z_fstore (C : Cx X D B own cc ret hh nm post px rm) {i : Nat} {x : UInt32} (hdg : decode cc pc = .ok (.fstore i, 2)) (hn : i < L.length) (hok : zok L i = true) (kk : Z X (pc + 2) (zs1 L i (Value.float x)) (rest) G n0 k0) : Z X pc L ((.float x :: rest)) G n0 k0 := by
  obtain ⟨p, l, e, R, s, m, args, below, meth, c, Q, D0, B0, nL⟩ := X
  obtain ⟨hx, hb, hml, hown, hts, -, -, -, -, -, -, rfl, rfl, rfl, rfl, -⟩ := C
  intro H locs ls hI hS hL
  have hlen : L.length = nL := hL.1
  exact lv_fstore hx hb hdg hL.has (by rw [← hlen]; exact hn) rfl (fun ls9 h9 => kk H locs ls9 hI hS (hL.s1 hok h9))
theorem z_fstore_n (C : Cx X D B own cc ret hh nm post px rm) {k : Fin 4} {i : Nat} {x : UInt32} (hdg : decode cc pc = .ok (.fstore_n k, 1)) (hi : (k : Nat) = i) (hn : i < L.length) (hok : zok L i = true) (kk : Z X (pc + 1) (zs1 L i (Value.float x)) (rest) G n0 k0) : Z X pc L ((.float x :: rest)) G n0 k0 := by
  obtain ⟨p, l, e, R, s, m, args, below, meth, c, Q, D0, B0, nL⟩ := X
  obtain ⟨hx, hb, hml, hown, hts, -, -, -, -, -, -, rfl, rfl, rfl, rfl, -⟩ := C
  intro H locs ls hI hS hL
  have hlen : L.length = nL := hL.1
  exact lv_fstore_n hx hb hdg hi hL.has (by rw [← hlen]; exact hn) rfl (fun ls9 h9 => kk H locs ls9 hI hS (hL.s1 hok h9))
theorem z_iinc (C : Cx X D B own cc ret hh nm post px rm) {i : Nat} {n : Int} {x v : Int32} (hdg : decode cc pc = .ok (.iinc i n, 3)) (hk : L[i]? = some (some (.int x))) (hv : x + Int32.ofInt n = v) (hn : i < L.length) (hok : zok L i = true) (kk : Z X (pc + 3) (zs1 L i (Value.int v)) (rest) G n0 k0) : Z X pc L (rest) G n0 k0 := by
  obtain ⟨p, l, e, R, s, m, args, below, meth, c, Q, D0, B0, nL⟩ := X
  obtain ⟨hx, hb, hml, hown, hts, -, -, -, -, -, -, rfl, rfl, rfl, rfl, -⟩ := C
  intro H locs ls hI hS hL
  have hlen : L.length = nL := hL.1
  obtain ⟨k9, hk9⟩ := List.getElem?_of_mem (zpairs_mem.mpr hk)
  exact lv_iinc hx hb hdg hL.has hk9 hv (by rw [← hlen]; exact hn) rfl (fun ls9 h9 => kk H locs ls9 hI hS (hL.s1 hok h9))
theorem z_iincW (C : Cx X D B own cc ret hh nm post px rm) {i : Nat} {n : Int} {x v : Int32} (hdg : decode cc pc = .ok (.iinc i n, 6)) (hk : L[i]? = some (some (.int x))) (hv : x + Int32.ofInt n = v) (hn : i < L.length) (hok : zok L i = true) (kk : Z X (pc + 6) (zs1 L i (Value.int v)) (rest) G n0 k0) : Z X pc L (rest) G n0 k0 := by
  obtain ⟨p, l, e, R, s, m, args, below, meth, c, Q, D0, B0, nL⟩ := X
  obtain ⟨hx, hb, hml, hown, hts, -, -, -, -, -, -, rfl, rfl, rfl, rfl, -⟩ := C
  intro H locs ls hI hS hL
  have hlen : L.length = nL := hL.1
  obtain ⟨k9, hk9⟩ := List.getElem?_of_mem (zpairs_mem.mpr hk)
  exact lv_iincW hx hb hdg hL.has hk9 hv (by rw [← hlen]; exact hn) rfl (fun ls9 h9 => kk H locs ls9 hI hS (hL.s1 hok h9))
theorem z_ldc (C : Cx X D B own cc ret hh nm post px rm) {index : Nat} {v : Int32} (hconst : Cond.constant own index v ∈ lw_all) (hdg : decode cc pc = .ok (.ldc index, 2)) (k : Z X (pc + 2) L ((.int v :: rest)) G n0 k0) : Z X pc L (rest) G n0 k0 := by
  obtain ⟨p, l, e, R, s, m, args, below, meth, c, Q, D0, B0, nL⟩ := X
  obtain ⟨hx, hb, hml, hown, hts, -, -, -, -, -, -, rfl, rfl, rfl, rfl, -⟩ := C
  intro H locs ls hI hS hL
  exact lv_ldc hx hb hown (hts _ hconst) hdg (k H locs ls hI hS hL)
theorem z_ldc2 (C : Cx X D B own cc ret hh nm post px rm) {index : Nat} {v : Int64} (hconst : Cond.constantLong own index v ∈ lw_all) (hdg : decode cc pc = .ok (.ldc2_w index, 3)) (k : Z X (pc + 3) L ((.long v :: rest)) G n0 k0) : Z X pc L (rest) G n0 k0 := by
  obtain ⟨p, l, e, R, s, m, args, below, meth, c, Q, D0, B0, nL⟩ := X
  obtain ⟨hx, hb, hml, hown, hts, -, -, -, -, -, -, rfl, rfl, rfl, rfl, -⟩ := C
  intro H locs ls hI hS hL
  exact lv_ldc2 hx hb hown (hts _ hconst) hdg (k H locs ls hI hS hL)
theorem z_ldcf (C : Cx X D B own cc ret hh nm post px rm) {index : Nat} {v : UInt32} (hconst : Cond.constantFloat own index v ∈ lw_all) (hdg : decode cc pc = .ok (.ldc index, 2)) (k : Z X (pc + 2) L ((.float v :: rest)) G n0 k0) : Z X pc L (rest) G n0 k0 := by
  obtain ⟨p, l, e, R, s, m, args, below, meth, c, Q, D0, B0, nL⟩ := X
  obtain ⟨hx, hb, hml, hown, hts, -, -, -, -, -, -, rfl, rfl, rfl, rfl, -⟩ := C
  intro H locs ls hI hS hL
  exact lv_ldcf hx hb hown (hts _ hconst) hdg (k H locs ls hI hS hL)
theorem z_ldc2d (C : Cx X D B own cc ret hh nm post px rm) {index : Nat} {v : UInt64} (hconst : Cond.constantDouble own index v ∈ lw_all) (hdg : decode cc pc = .ok (.ldc2_w index, 3)) (k : Z X (pc + 3) L ((.double v :: rest)) G n0 k0) : Z X pc L (rest) G n0 k0 := by
  obtain ⟨p, l, e, R, s, m, args, below, meth, c, Q, D0, B0, nL⟩ := X
  obtain ⟨hx, hb, hml, hown, hts, -, -, -, -, -, -, rfl, rfl, rfl, rfl, -⟩ := C
  intro H locs ls hI hS hL
  exact lv_ldc2d hx hb hown (hts _ hconst) hdg (k H locs ls hI hS hL)
theorem z_ldcw (C : Cx X D B own cc ret hh nm post px rm) {index : Nat} {v : Int32} (hconst : Cond.constant own index v ∈ lw_all) (hdg : decode cc pc = .ok (.ldc_w index, 3)) (k : Z X (pc + 3) L ((.int v :: rest)) G n0 k0) : Z X pc L (rest) G n0 k0 := by
  obtain ⟨p, l, e, R, s, m, args, below, meth, c, Q, D0, B0, nL⟩ := X
  obtain ⟨hx, hb, hml, hown, hts, -, -, -, -, -, -, rfl, rfl, rfl, rfl, -⟩ := C
  intro H locs ls hI hS hL
  exact lv_ldcw hx hb hown (hts _ hconst) hdg (k H locs ls hI hS hL)
/-! returns -/
theorem z_ireturn (C : Cx X D B own cc ret hh nm post px rm) {v : Int32} {ty : FieldType} (hret : ret = some ty) (hn : narrow ty (.int v) = .int v) (hdg : decode cc pc = .ok (.ireturn, 1)) (hp : post (some (.int v)) G) (h1 : n0 ≤ rm.cells) (h2 : k0 ≤ rm.slots) : Z X pc L [.int v] G n0 k0 := by
  obtain ⟨p, l, e, R, s, m, args, below, meth, c, Q, D0, B0, nL⟩ := X
  obtain ⟨hx, hb, hml, hown, hts, -, hlk, hr, -, -, -, rfl, rfl, rfl, rfl, -⟩ := C
  intro H locs ls hI hS hL
  refine W.widen h1 h2 (vx_ret (W.zret (v := v) hx hb (hr.trans hret) hn (fun t ht hW => ⟨⟨_, G, rfl, hp, by rw [ht]; exact hI⟩, hS.F ht⟩) hS.2.2 hdg))
theorem z_lreturn (C : Cx X D B own cc ret hh nm post px rm) {v : Int64} (hret : ret = some .long) (hdg : decode cc pc = .ok (.lreturn, 1)) (hp : post (some (.long v)) G) (h1 : n0 ≤ rm.cells) (h2 : k0 ≤ rm.slots) : Z X pc L [.long v] G n0 k0 := by
  obtain ⟨p, l, e, R, s, m, args, below, meth, c, Q, D0, B0, nL⟩ := X
  obtain ⟨hx, hb, hml, hown, hts, -, hlk, hr, -, -, -, rfl, rfl, rfl, rfl, -⟩ := C
  intro H locs ls hI hS hL
  refine W.widen h1 h2 (vx_ret (W.lret (v := v) hx hb (hr.trans hret) (fun t ht hW => ⟨⟨_, G, rfl, hp, by rw [ht]; exact hI⟩, hS.F ht⟩) hS.2.2 hdg))
theorem z_dreturn (C : Cx X D B own cc ret hh nm post px rm) {v : UInt64} (hret : ret = some .double) (hdg : decode cc pc = .ok (.dreturn, 1)) (hp : post (some (.double v)) G) (h1 : n0 ≤ rm.cells) (h2 : k0 ≤ rm.slots) : Z X pc L [.double v] G n0 k0 := by
  obtain ⟨p, l, e, R, s, m, args, below, meth, c, Q, D0, B0, nL⟩ := X
  obtain ⟨hx, hb, hml, hown, hts, -, hlk, hr, -, -, -, rfl, rfl, rfl, rfl, -⟩ := C
  intro H locs ls hI hS hL
  refine W.widen h1 h2 (vx_ret (W.dret (v := v) hx hb (hr.trans hret) (fun t ht hW => ⟨⟨_, G, rfl, hp, by rw [ht]; exact hI⟩, hS.F ht⟩) hS.2.2 hdg))
theorem z_freturn (C : Cx X D B own cc ret hh nm post px rm) {v : UInt32} (hret : ret = some .float) (hdg : decode cc pc = .ok (.freturn, 1)) (hp : post (some (.float v)) G) (h1 : n0 ≤ rm.cells) (h2 : k0 ≤ rm.slots) : Z X pc L [.float v] G n0 k0 := by
  obtain ⟨p, l, e, R, s, m, args, below, meth, c, Q, D0, B0, nL⟩ := X
  obtain ⟨hx, hb, hml, hown, hts, -, hlk, hr, -, -, -, rfl, rfl, rfl, rfl, -⟩ := C
  intro H locs ls hI hS hL
  refine W.widen h1 h2 (vx_ret (W.fret (v := v) hx hb (hr.trans hret) (fun t ht hW => ⟨⟨_, G, rfl, hp, by rw [ht]; exact hI⟩, hS.F ht⟩) hS.2.2 hdg))
theorem z_areturn (C : Cx X D B own cc ret hh nm post px rm) {v : Value} {rt : FieldType} (hret : ret = some rt) (hrt : (∃ n, rt = .object n) ∨ ∃ t, rt = .array t) (hv : v = .null ∨ ∃ a, v = .ref a) (hdg : decode cc pc = .ok (.areturn, 1)) (hp : post (some v) G) (h1 : n0 ≤ rm.cells) (h2 : k0 ≤ rm.slots) : Z X pc L [v] G n0 k0 := by
  obtain ⟨p, l, e, R, s, m, args, below, meth, c, Q, D0, B0, nL⟩ := X
  obtain ⟨hx, hb, hml, hown, hts, -, hlk, hr, -, -, -, rfl, rfl, rfl, rfl, -⟩ := C
  intro H locs ls hI hS hL
  refine W.widen h1 h2 (vx_ret (W.aret (v := v) hx hb (hr.trans hret) hrt hv (fun t ht hW => ⟨⟨_, G, rfl, hp, by rw [ht]; exact hI⟩, hS.F ht⟩) hS.2.2 hdg))
theorem z_return (C : Cx X D B own cc ret hh nm post px rm) (hret : ret = none) (hdg : decode cc pc = .ok (.return_, 1)) (hp : post none G) (h1 : n0 ≤ rm.cells) (h2 : k0 ≤ rm.slots) : Z X pc L [] G n0 k0 := by
  obtain ⟨p, l, e, R, s, m, args, below, meth, c, Q, D0, B0, nL⟩ := X
  obtain ⟨hx, hb, hml, hown, hts, -, hlk, hr, -, -, -, rfl, rfl, rfl, rfl, -⟩ := C
  intro H locs ls hI hS hL
  refine W.widen h1 h2 (vx_ret (W.vret hx hb (hr.trans hret) (fun t ht hW => ⟨⟨_, G, rfl, hp, by rw [ht]; exact hI⟩, hS.F ht⟩) hS.2.2 hdg))
/-! fields -/
theorem zcl_ok : ∀ r ∈ zCL, (∀ w ∈ u_ws r.1 r.2.1 r.2.2, w ∈ lw_all) ∧ (∃ ty0 : Nat → FieldType, ∀ k, k < r.2.2 → parseFieldDescriptor (r.2.1 k).2.2.1 = some (ty0 k)) ∧ (∀ a, a < r.2.2 → ∀ b, b < r.2.2 → a ≠ b → (r.2.1 a).2.1 ≠ (r.2.1 b).2.1) :=
  List.forall_mem_cons.mpr ⟨⟨in_X1, ⟨tyX1, tyX1_ok⟩, nmX1⟩, List.forall_mem_cons.mpr ⟨⟨in_X2, ⟨tyX2, tyX2_ok⟩, nmX2⟩, List.forall_mem_cons.mpr ⟨⟨in_X3, ⟨tyX3, tyX3_ok⟩, nmX3⟩, List.forall_mem_cons.mpr ⟨⟨in_X4, ⟨tyX4, tyX4_ok⟩, nmX4⟩, List.forall_mem_cons.mpr ⟨⟨in_X5, ⟨tyX5, tyX5_ok⟩, nmX5⟩, List.forall_mem_cons.mpr ⟨⟨in_X6, ⟨tyX6, tyX6_ok⟩, nmX6⟩, List.forall_mem_cons.mpr ⟨⟨in_X7, ⟨tyX7, tyX7_ok⟩, nmX7⟩, List.forall_mem_cons.mpr ⟨⟨in_X8, ⟨tyX8, tyX8_ok⟩, nmX8⟩, List.forall_mem_cons.mpr ⟨⟨in_X11, ⟨tyX11, tyX11_ok⟩, nmX11⟩, List.forall_mem_cons.mpr ⟨⟨in_X12, ⟨tyX12, tyX12_ok⟩, nmX12⟩, List.forall_mem_cons.mpr ⟨⟨in_X14, ⟨tyX14, tyX14_ok⟩, nmX14⟩, List.forall_mem_cons.mpr ⟨⟨in_X15, ⟨tyX15, tyX15_ok⟩, nmX15⟩, List.forall_mem_cons.mpr ⟨⟨in_X16, ⟨tyX16, tyX16_ok⟩, nmX16⟩, List.forall_mem_cons.mpr ⟨⟨in_J2, ⟨tyJ2, tyJ2_ok⟩, nmJ2⟩, List.forall_mem_cons.mpr ⟨⟨in_J22, ⟨tyJ22, tyJ22_ok⟩, nmJ22⟩, List.forall_mem_cons.mpr ⟨⟨in_J8, ⟨tyJ8, tyJ8_ok⟩, nmJ8⟩, List.forall_mem_cons.mpr ⟨⟨in_J9, ⟨tyJ9, tyJ9_ok⟩, nmJ9⟩, fun _ h => absurd h List.not_mem_nil⟩⟩⟩⟩⟩⟩⟩⟩⟩⟩⟩⟩⟩⟩⟩⟩⟩
/-- the k-th field of class ci: who declares it, its name, its descriptor, whether it is final -/
def zfd (ci k : Nat) : Option (String × String × String × Bool) := (zCL[ci]?).bind fun r => if k < r.2.2 then some (r.2.1 k) else none
theorem zfd_spec {ci k : Nat} {q : String × String × String × Bool} (h : zfd ci k = some q) : ∃ r : vw_C, zCL[ci]? = some r ∧ k < r.2.2 ∧ r.2.1 k = q ∧ ci < 100 := by
  unfold zfd at h
  obtain ⟨r, h1, h2⟩ := Option.bind_eq_some_iff.mp h
  split at h2
  · next hk =>
    cases h2
    have h3 : ci < zCL.length := (List.getElem?_eq_some_iff.mp h1).1
    exact ⟨r, h1, hk, rfl, Nat.lt_of_lt_of_le h3 (by decide)⟩
  · cases h2
theorem zP1 {a ci : Nat} {fs : List Value} {H : Heap} (h : z_at D a (.inr (ci, fs)) H) (hc : ci < 100) : va_P (D.1, D.2.1) zCL [(a, .inr (ci, fs))] H := by
  intro k q hk
  match k, hk with
  | 0, hk =>
    cases hk
    unfold z_at at h
    dsimp only at h
    rw [if_pos hc] at h
    exact h
  | k + 1, hk => simp at hk
theorem zP1' {a ci : Nat} {fs : List Value} {H : Heap} (h : va_at (D.1, D.2.1) zCL (a, .inr (ci, fs)) H) (hc : ci < 100) : z_at D a (.inr (ci, fs)) H := by
  unfold z_at
  dsimp only
  rw [if_pos hc]
  exact h
theorem zP2 {a t : Nat} {x : vp_A} {H : Heap} (h : z_at D a (.inl (t, x)) H) : va_P (D.1, D.2.1) zCL [(a, .inl (D.2.2.1 t, x))] H := by
  intro k q hk
  match k, hk with
  | 0, hk => cases hk; exact h
  | k + 1, hk => simp at hk
theorem zTYS_at {t : Nat} {ty : FieldType} (h : zTY[t]? = some ty) : (zTYS D)[t]? = some (D.2.2.1 t, ty) := by
  unfold zTYS
  rw [List.getElem?_map, List.getElem?_zipIdx, h]
  simp
theorem z_getfG (C : Cx X D B own cc ret hh nm post px rm) {a ci k index : Nat} {dcl ref nme dsc : String} {fin : Bool} {fs : List Value} {v : Value} (hg : G a = some (.inr (ci, fs))) (hT : zfd ci k = some (dcl, nme, dsc, fin)) (hv : fs[k]? = some v) (hsm : dcl = ref ∨ Cond.sameField ref dcl nme dsc ∈ lw_all) (hq : Cond.fieldLink own index ref nme dsc ∈ lw_all) (hdg : decode cc pc = .ok (.getfield index, 3))
    (g : Z X (pc + 3) L (v :: rest) G n0 k0) : Z X pc L (.ref a :: rest) G n0 k0 := by
  obtain ⟨p, l, e, R, s, m, args, below, meth, c, Q, D0, B0, nL⟩ := X
  obtain ⟨hx, hb, hml, hown, hts, hW, -, -, -, -, -, rfl, rfl, rfl, rfl, -⟩ := C
  intro H locs ls hI hS hL
  obtain ⟨⟨C0, T0, N0⟩, h1, h2, h3, h4⟩ := zfd_spec hT
  dsimp only at h2 h3
  have hin := (zcl_ok _ (List.mem_of_getElem? h1)).1
  have hsame : ∀ x, s.fieldFound? dcl nme dsc = some x → s.fieldFound? ref nme dsc = some x := by
    rcases hsm with e9 | e9
    · subst e9; exact fun _ h => h
    · exact fun x hx9 => u_same (hts _ e9) x hx9
  exact va_get (C := C0) (T := T0) (N := N0) (ref := ref) hx hb hts hin hown hW.1 (zP1 (hI.at hg) h4) 0 rfl h1 k h2 (by rw [h3]; exact hts _ hq) (by rw [h3]; exact hsame) hv hdg (g H locs ls hI hS hL)
theorem z_getf (C : Cx X D B own cc ret hh nm post px rm) {a ci k index : Nat} {ref nme dsc : String} {fin : Bool} {fs : List Value} {v : Value} (hg : G a = some (.inr (ci, fs))) (hT : zfd ci k = some (ref, nme, dsc, fin)) (hv : fs[k]? = some v) (hq : Cond.fieldLink own index ref nme dsc ∈ lw_all) (hdg : decode cc pc = .ok (.getfield index, 3))
    (g : Z X (pc + 3) L (v :: rest) G n0 k0) : Z X pc L (.ref a :: rest) G n0 k0 := z_getfG C hg hT hv (Or.inl rfl) hq hdg g
theorem z_getfN (C : Cx X D B own cc ret hh nm post px rm) {a ci k index : Nat} {ref nme dsc host : String} {fin : Bool} {fs : List Value} {v : Value} (hg : G a = some (.inr (ci, fs))) (hT : zfd ci k = some (ref, nme, dsc, fin)) (hv : fs[k]? = some v) (hq : Cond.fieldLinkNest own index ref nme dsc host ∈ lw_tbl) (hdg : decode cc pc = .ok (.getfield index, 3))
    (g : Z X (pc + 3) L (v :: rest) G n0 k0) : Z X pc L (.ref a :: rest) G n0 k0 := by
  obtain ⟨p, l, e, R, s, m, args, below, meth, c, Q, D0, B0, nL⟩ := X
  obtain ⟨hx, hb, hml, hown, hts, hW, -, -, -, -, -, rfl, rfl, rfl, rfl, -⟩ := C
  intro H locs ls hI hS hL
  obtain ⟨⟨C0, T0, N0⟩, h1, h2, h3, h4⟩ := zfd_spec hT
  dsimp only at h2 h3
  have hin := (zcl_ok _ (List.mem_of_getElem? h1)).1
  exact va_getN (C := C0) (T := T0) (N := N0) (ref := ref) (host := host) hx hb hts hin hown hW.1 (zP1 (hI.at hg) h4) 0 rfl h1 k h2 (by rw [h3]; exact va_Nw.use rfl (hW.2.1 _ hq rfl)) (by rw [h3]; exact fun _ h9 => h9) hv hdg (g H locs ls hI hS hL)
/-- a field's new value fits it -/
def zfit (dsc : String) (v : Value) : Prop := ∃ ty, parseFieldDescriptor dsc = some ty ∧ narrow ty v = v ∧ fits ty v = true
theorem z_putfG (C : Cx X D B own cc ret hh nm post px rm) {a ci k index : Nat} {dcl ref nme dsc : String} {fs : List Value} {v : Value} (hg : G a = some (.inr (ci, fs))) (hT : zfd ci k = some (dcl, nme, dsc, false)) (hl : k < fs.length) (hv : zfit dsc v) (hsm : dcl = ref ∨ Cond.sameField ref dcl nme dsc ∈ lw_all) (hq : Cond.fieldLink own index ref nme dsc ∈ lw_all) (hdg : decode cc pc = .ok (.putfield index, 3))
    (g : Z X (pc + 3) L rest (zup G a (.inr (ci, fs.set k v))) n0 k0) : Z X pc L (v :: .ref a :: rest) G n0 k0 := by
  obtain ⟨p, l, e, R, s, m, args, below, meth, c, Q, D0, B0, nL⟩ := X
  obtain ⟨hx, hb, hml, hown, hts, hW, -, -, -, -, -, rfl, rfl, rfl, rfl, -⟩ := C
  intro H locs ls hI hS hL
  obtain ⟨⟨C0, T0, N0⟩, h1, h2, h3, h4⟩ := zfd_spec hT
  dsimp only at h2 h3
  obtain ⟨hin, ⟨ty0, hty⟩, hnm⟩ := zcl_ok _ (List.mem_of_getElem? h1)
  dsimp only at hin hty hnm
  obtain ⟨ty, hd, hn, hfit⟩ := hv
  have hap := va_apart (own := own) hts hin ty0 hty hnm hW.1 h1
  have hz := hI.2 a _ hg
  obtain ⟨r, g1, cell, q1, q2, q3, q4⟩ := zP1 hz.2 h4 0 _ rfl
  cases g1.symm.trans h1
  obtain ⟨hSl, hfc, kC, hkC, hkind⟩ := hW.1.1 ci _ h1
  obtain ⟨cf, kf, fi, f, hi, hsl⟩ := hSl k h2
  have hlay := hts _ (hin _ (u_in_lay h2))
  unfold u_lay at hlay
  dsimp only at q4 hSl hi hsl hlay hap
  rw [h3] at hlay hi
  dsimp only at hlay hi
  rw [if_neg (fun q => by cases q)] at hlay
  have hst := (u_facts hfc hkC (u_lays hts hin h2) (by rw [h3]; exact hi)).1
  have h6 := u_store hfc hkC hkind hlay hi hd hn hfit
  have hsame : ∀ x, s.fieldFound? dcl nme dsc = some x → s.fieldFound? ref nme dsc = some x := by
    rcases hsm with e9 | e9
    · subst e9; exact fun _ h => h
    · exact fun x hx9 => u_same (hts _ e9) x hx9
  refine W.putK hx hb (f := f) ⟨hown, hts _ hq, ⟨_, _, _, hsame _ hi⟩, hst⟩ (by rw [q2]; exact h6) q1 q3 (by rw [hsl]; exact k2_hasslot (q4 k h2)) rfl rfl hdg fun H' e1 e2 e3 => ?_
  rw [hsl] at e1 ⊢
  exact g H' _ ls (hI.put hg (zP1' ⟨_, h1, t_OB.to (V := updV (vp_V fs) k v) ⟨_, e1, q2, q3, t_set q4 hap h2 v⟩ (fun j _ => vp_updV_set hl v j)⟩ h4) e2 e3) (hS.put e2 e3 hz.1) hL
theorem z_putf (C : Cx X D B own cc ret hh nm post px rm) {a ci k index : Nat} {ref nme dsc : String} {fs : List Value} {v : Value} (hg : G a = some (.inr (ci, fs))) (hT : zfd ci k = some (ref, nme, dsc, false)) (hl : k < fs.length) (hv : zfit dsc v) (hq : Cond.fieldLink own index ref nme dsc ∈ lw_all) (hdg : decode cc pc = .ok (.putfield index, 3))
    (g : Z X (pc + 3) L rest (zup G a (.inr (ci, fs.set k v))) n0 k0) : Z X pc L (v :: .ref a :: rest) G n0 k0 := z_putfG C hg hT hl hv (Or.inl rfl) hq hdg g
theorem z_putfN (C : Cx X D B own cc ret hh nm post px rm) {a ci k index : Nat} {dcl nme dsc host : String} {fs : List Value} {v : Value} (hg : G a = some (.inr (ci, fs))) (hT : zfd ci k = some (dcl, nme, dsc, false)) (hl : k < fs.length) (hv : zfit dsc v) (hq : Cond.fieldLinkNest own index dcl nme dsc host ∈ lw_tbl) (hdg : decode cc pc = .ok (.putfield index, 3))
    (g : Z X (pc + 3) L rest (zup G a (.inr (ci, fs.set k v))) n0 k0) : Z X pc L (v :: .ref a :: rest) G n0 k0 := by
  obtain ⟨p, l, e, R, s, m, args, below, meth, c, Q, D0, B0, nL⟩ := X
  obtain ⟨hx, hb, hml, hown, hts, hW, -, -, -, -, -, rfl, rfl, rfl, rfl, -⟩ := C
  intro H locs ls hI hS hL
  obtain ⟨⟨C0, T0, N0⟩, h1, h2, h3, h4⟩ := zfd_spec hT
  dsimp only at h2 h3
  obtain ⟨hin, ⟨ty0, hty⟩, hnm⟩ := zcl_ok _ (List.mem_of_getElem? h1)
  dsimp only at hin hty hnm
  obtain ⟨ty, hd, hn, hfit⟩ := hv
  have hap := va_apart (own := own) hts hin ty0 hty hnm hW.1 h1
  have hz := hI.2 a _ hg
  obtain ⟨r, g1, cell, q1, q2, q3, q4⟩ := zP1 hz.2 h4 0 _ rfl
  cases g1.symm.trans h1
  obtain ⟨hSl, hfc, kC, hkC, hkind⟩ := hW.1.1 ci _ h1
  obtain ⟨cf, kf, fi, f, hi, hsl⟩ := hSl k h2
  have hlay := hts _ (hin _ (u_in_lay h2))
  unfold u_lay at hlay
  dsimp only at q4 hSl hi hsl hlay hap
  rw [h3] at hlay hi
  dsimp only at hlay hi
  rw [if_neg (fun q => by cases q)] at hlay
  have hst := (u_facts hfc hkC (u_lays hts hin h2) (by rw [h3]; exact hi)).1
  have h6 := u_store hfc hkC hkind hlay hi hd hn hfit
  refine va_WputK hx hb (f := f) hown (va_Nw.use rfl (hW.2.1 _ hq rfl)) hi hst (by rw [q2]; exact h6) q1 q3 (by rw [hsl]; exact k2_hasslot (q4 k h2)) rfl rfl hdg fun H' e1 e2 e3 => ?_
  rw [hsl] at e1 ⊢
  exact g H' _ ls (hI.put hg (zP1' ⟨_, h1, t_OB.to (V := updV (vp_V fs) k v) ⟨_, e1, q2, q3, t_set q4 hap h2 v⟩ (fun j _ => vp_updV_set hl v j)⟩ h4) e2 e3) (hS.put e2 e3 hz.1) hL
theorem z_putfF (C : Cx X D B own cc ret hh nm post px rm) {a ci k index : Nat} {ref nme dsc : String} {fs : List Value} {v : Value} (hg : G a = some (.inr (ci, fs))) (hT : zfd ci k = some (ref, nme, dsc, true)) (hl : k < fs.length) (hv : zfit dsc v) (hin2 : nm = "<init>") (hdecl : ref = own) (hq : Cond.fieldLink own index ref nme dsc ∈ lw_all) (hdg : decode cc pc = .ok (.putfield index, 3))
    (g : Z X (pc + 3) L rest (zup G a (.inr (ci, fs.set k v))) n0 k0) : Z X pc L (v :: .ref a :: rest) G n0 k0 := by
  obtain ⟨p, l, e, R, s, m, args, below, meth, c, Q, D0, B0, nL⟩ := X
  obtain ⟨hx, hb, hml, hown, hts, hW, -, -, hmn, -, -, rfl, rfl, rfl, rfl, -⟩ := C
  intro H locs ls hI hS hL
  obtain ⟨⟨C0, T0, N0⟩, h1, h2, h3, h4⟩ := zfd_spec hT
  dsimp only at h2 h3
  obtain ⟨hin, ⟨ty0, hty⟩, hnm⟩ := zcl_ok _ (List.mem_of_getElem? h1)
  dsimp only at hin hty hnm
  obtain ⟨ty, hd, hn, hfit⟩ := hv
  have hap := va_apart (own := own) hts hin ty0 hty hnm hW.1 h1
  have hz := hI.2 a _ hg
  obtain ⟨r, g1, cell, q1, q2, q3, q4⟩ := zP1 hz.2 h4 0 _ rfl
  cases g1.symm.trans h1
  obtain ⟨hSl, hfc, kC, hkC, hkind⟩ := hW.1.1 ci _ h1
  obtain ⟨cf, kf, fi, f, hi, hsl⟩ := hSl k h2
  have hlay := hts _ (hin _ (u_in_lay h2))
  unfold u_lay at hlay
  dsimp only at q4 hSl hi hsl hlay hap
  rw [h3] at hlay hi
  dsimp only at hlay hi
  rw [if_pos rfl] at hlay
  have hst := (u_facts hfc hkC (u_lays hts hin h2) (by rw [h3]; exact hi)).1
  have hcf : m.cls = cf := by
    obtain ⟨_, _, c', _, _, _, -, -, hf', -, -, -, hown2, -⟩ := Cond.laysFinal_spec hlay
    have e1 : c' = cf := by have := hi.symm.trans hf'; simp at this; exact this.1.symm
    rw [hdecl] at hown2
    rw [← e1]; exact Option.some.inj (hown.symm.trans hown2)
  have h6 := u_fits hfc hkC hkind (Or.inr hlay) hi hd hn hfit
  refine W.putFinK hx hb hown (hts _ hq) hi hst hcf (hmn.trans hin2) (by rw [q2]; exact h6) q1 q3 (by rw [hsl]; exact k2_hasslot (q4 k h2)) rfl rfl hdg fun H' e1 e2 e3 => ?_
  rw [hsl] at e1 ⊢
  exact g H' _ ls (hI.put hg (zP1' ⟨_, h1, t_OB.to (V := updV (vp_V fs) k v) ⟨_, e1, q2, q3, t_set q4 hap h2 v⟩ (fun j _ => vp_updV_set hl v j)⟩ h4) e2 e3) (hS.put e2 e3 hz.1) hL
/-! arrays -/
theorem zst_i (c : ClassId) (n k : Nat) (f : Nat → Int32) (x : Int32) : (vp_cell c (n, .inl f)).setSlot k (.int x) = vp_cell c (n, .inl (upd f k x)) := by
  rw [vp_cell_i, vp_cell_i, arrV_store]
  congr 2
  funext q
  by_cases hq : q = k
  · subst hq; simp [updV, upd]
  · simp [updV, upd, hq]
theorem zst_l (c : ClassId) (n k : Nat) (f : Nat → Int64) (x : Int64) : (vp_cell c (n, .inr (.inl f))).setSlot k (.long x) = vp_cell c (n, .inr (.inl (vp_updL f k x))) := by
  rw [vp_cell_l, vp_cell_l, arrV_store]
  congr 2
  funext q
  by_cases hq : q = k
  · subst hq; simp [updV, vp_updL]
  · simp [updV, vp_updL, hq]
theorem zst_d (c : ClassId) (n k : Nat) (f : Nat → UInt64) (x : UInt64) : (vp_cell c (n, .inr (.inr (.inr (.inl f))))).setSlot k (.double x) = vp_cell c (n, .inr (.inr (.inr (.inl (vf_upd f k x))))) := by
  rw [vp_cell_d, vp_cell_d, arrV_store]
  congr 2
  funext q
  by_cases hq : q = k
  · subst hq; simp [updV, vf_upd]
  · simp [updV, vf_upd, hq]
theorem zst_q (c : ClassId) (n k : Nat) (f : Nat → Option Nat) (x : Option Nat) : (vp_cell c (n, .inr (.inr (.inr (.inr f))))).setSlot k (va_rf x) = vp_cell c (n, .inr (.inr (.inr (.inr (va_up f k x))))) := by
  rw [vp_cell_q, vp_cell_q, arrV_store]
  congr 2
  funext q
  by_cases hq : q = k
  · subst hq; simp [updV, va_up]
  · simp [updV, va_up, hq]
theorem zarr_at {s : State} {t n : Nat} {ty : FieldType} {f : Nat → Value} {c : ClassId} (hW : va_K (D.1, D.2.1) zCL (zTYS D) s) (ht : zTY[t]? = some ty) (hc : c = D.2.2.1 t) : s.isArrayOf (arrV c n f) ty := by
  subst hc
  exact (hW.2 t _ (zTYS_at ht)).1 n f
theorem z_iald (C : Cx X D B own cc ret hh nm post px rm) {a n : Nat} {f : Nat → Int32} {i : Int32} (hg : G a = some (.inl (0, n, .inl f))) (hin : vp_in i n) (hdg : decode cc pc = .ok (.iaload, 1))
    (g : Z X (pc + 1) L (.int (f i.toNatClampNeg) :: rest) G n0 k0) : Z X pc L (.int i :: .ref a :: rest) G n0 k0 := by
  obtain ⟨p, l, e, R, s, m, args, below, meth, c, Q, D0, B0, nL⟩ := X
  obtain ⟨hx, hb, hml, hown, hts, hW, -, -, -, -, -, rfl, rfl, rfl, rfl, -⟩ := C
  intro H locs ls hI hS hL
  exact va_iald hx hb hW.1 (zP2 (hI.at hg)) 0 0 rfl (zTYS_at rfl) hin hdg (g H locs ls hI hS hL)
theorem z_bald (C : Cx X D B own cc ret hh nm post px rm) {a n : Nat} {f : Nat → Int32} {i : Int32} (hg : G a = some (.inl (2, n, .inl f))) (hin : vp_in i n) (hdg : decode cc pc = .ok (.baload, 1))
    (g : Z X (pc + 1) L (.int (f i.toNatClampNeg) :: rest) G n0 k0) : Z X pc L (.int i :: .ref a :: rest) G n0 k0 := by
  obtain ⟨p, l, e, R, s, m, args, below, meth, c, Q, D0, B0, nL⟩ := X
  obtain ⟨hx, hb, hml, hown, hts, hW, -, -, -, -, -, rfl, rfl, rfl, rfl, -⟩ := C
  intro H locs ls hI hS hL
  exact va_bald hx hb hW.1 (zP2 (hI.at hg)) 0 2 rfl (zTYS_at rfl) hin hdg (g H locs ls hI hS hL)
theorem z_zald (C : Cx X D B own cc ret hh nm post px rm) {a n : Nat} {f : Nat → Int32} {i : Int32} (hg : G a = some (.inl (3, n, .inl f))) (hin : vp_in i n) (hdg : decode cc pc = .ok (.baload, 1))
    (g : Z X (pc + 1) L (.int (f i.toNatClampNeg) :: rest) G n0 k0) : Z X pc L (.int i :: .ref a :: rest) G n0 k0 := by
  obtain ⟨p, l, e, R, s, m, args, below, meth, c, Q, D0, B0, nL⟩ := X
  obtain ⟨hx, hb, hml, hown, hts, hW, -, -, -, -, -, rfl, rfl, rfl, rfl, -⟩ := C
  intro H locs ls hI hS hL
  exact va_zald hx hb hW.1 (zP2 (hI.at hg)) 0 3 rfl (zTYS_at rfl) hin hdg (g H locs ls hI hS hL)
theorem z_lald (C : Cx X D B own cc ret hh nm post px rm) {a n : Nat} {f : Nat → Int64} {i : Int32} (hg : G a = some (.inl (1, n, .inr (.inl f)))) (hin : vp_in i n) (hdg : decode cc pc = .ok (.laload, 1))
    (g : Z X (pc + 1) L (.long (f i.toNatClampNeg) :: rest) G n0 k0) : Z X pc L (.int i :: .ref a :: rest) G n0 k0 := by
  obtain ⟨p, l, e, R, s, m, args, below, meth, c, Q, D0, B0, nL⟩ := X
  obtain ⟨hx, hb, hml, hown, hts, hW, -, -, -, -, -, rfl, rfl, rfl, rfl, -⟩ := C
  intro H locs ls hI hS hL
  exact va_lald hx hb hW.1 (zP2 (hI.at hg)) 0 1 rfl (zTYS_at rfl) hin hdg (g H locs ls hI hS hL)
theorem z_dald (C : Cx X D B own cc ret hh nm post px rm) {a n : Nat} {f : Nat → UInt64} {i : Int32} (hg : G a = some (.inl (4, n, .inr (.inr (.inr (.inl f)))))) (hin : vp_in i n) (hdg : decode cc pc = .ok (.daload, 1))
    (g : Z X (pc + 1) L (.double (f i.toNatClampNeg) :: rest) G n0 k0) : Z X pc L (.int i :: .ref a :: rest) G n0 k0 := by
  obtain ⟨p, l, e, R, s, m, args, below, meth, c, Q, D0, B0, nL⟩ := X
  obtain ⟨hx, hb, hml, hown, hts, hW, -, -, -, -, -, rfl, rfl, rfl, rfl, -⟩ := C
  intro H locs ls hI hS hL
  exact va_dald hx hb hW.1 (zP2 (hI.at hg)) 0 4 rfl (zTYS_at rfl) hin hdg (g H locs ls hI hS hL)
theorem z_aald (C : Cx X D B own cc ret hh nm post px rm) {a n t : Nat} {f : Nat → Option Nat} {i : Int32} {C0 : String} (hg : G a = some (.inl (t, n, .inr (.inr (.inr (.inr f)))))) (ht : zTY[t]? = some (.object C0)) (hin : vp_in i n) (hdg : decode cc pc = .ok (.aaload, 1))
    (g : Z X (pc + 1) L (va_rf (f i.toNatClampNeg) :: rest) G n0 k0) : Z X pc L (.int i :: .ref a :: rest) G n0 k0 := by
  obtain ⟨p, l, e, R, s, m, args, below, meth, c, Q, D0, B0, nL⟩ := X
  obtain ⟨hx, hb, hml, hown, hts, hW, -, -, -, -, -, rfl, rfl, rfl, rfl, -⟩ := C
  intro H locs ls hI hS hL
  exact va_aldq hx hb hW.1 (zP2 (hI.at hg)) 0 t rfl (zTYS_at ht) hin hdg (g H locs ls hI hS hL)
theorem z_alen (C : Cx X D B own cc ret hh nm post px rm) {a t : Nat} {x : vp_A} {ty : FieldType} {v : Int32} (hg : G a = some (.inl (t, x))) (ht : zTY[t]? = some ty) (hv : Int32.ofNat x.1 = v) (hdg : decode cc pc = .ok (.arraylength, 1))
    (g : Z X (pc + 1) L (.int v :: rest) G n0 k0) : Z X pc L (.ref a :: rest) G n0 k0 := by
  obtain ⟨p, l, e, R, s, m, args, below, meth, c, Q, D0, B0, nL⟩ := X
  obtain ⟨hx, hb, hml, hown, hts, hW, -, -, -, -, -, rfl, rfl, rfl, rfl, -⟩ := C
  intro H locs ls hI hS hL
  exact va_alen hx hb hW.1 (zP2 (hI.at hg)) 0 t rfl (zTYS_at ht) hv hdg (g H locs ls hI hS hL)
theorem z_iast (C : Cx X D B own cc ret hh nm post px rm) {a n : Nat} {f : Nat → Int32} {i x : Int32} (hg : G a = some (.inl (0, n, .inl f))) (hin : vp_in i n) (hdg : decode cc pc = .ok (.iastore, 1))
    (g : Z X (pc + 1) L rest (zup G a (.inl (0, n, .inl (upd f i.toNatClampNeg x)))) n0 k0) : Z X pc L (.int x :: .int i :: .ref a :: rest) G n0 k0 := by
  obtain ⟨p, l, e, R, s, m, args, below, meth, c, Q, D0, B0, nL⟩ := X
  obtain ⟨hx, hb, hml, hown, hts, hW, -, -, -, -, -, rfl, rfl, rfl, rfl, -⟩ := C
  intro H locs ls hI hS hL
  have hz := hI.2 a _ hg
  exact W.iast hx hb hz.2 (zarr_at hW.1 (t := 0) rfl rfl) (fun q => by cases q) (by show ¬ (i < 0 ∨ (arrV _ _ _).slots.size ≤ _); rw [arrV_size]; exact hin) rfl rfl hdg fun H1 e1 z oq => g H1 _ ls (hI.put hg (e1.trans (congrArg some (zst_i _ _ _ _ _))) z oq) (hS.put z oq hz.1) hL
theorem z_bast (C : Cx X D B own cc ret hh nm post px rm) {a n : Nat} {f : Nat → Int32} {i x y : Int32} (hg : G a = some (.inl (2, n, .inl f))) (hin : vp_in i n) (hy : vp_nar .byte x = y) (hdg : decode cc pc = .ok (.bastore, 1))
    (g : Z X (pc + 1) L rest (zup G a (.inl (2, n, .inl (upd f i.toNatClampNeg y)))) n0 k0) : Z X pc L (.int x :: .int i :: .ref a :: rest) G n0 k0 := by
  obtain ⟨p, l, e, R, s, m, args, below, meth, c, Q, D0, B0, nL⟩ := X
  obtain ⟨hx, hb, hml, hown, hts, hW, -, -, -, -, -, rfl, rfl, rfl, rfl, -⟩ := C
  intro H locs ls hI hS hL
  have hz := hI.2 a _ hg
  subst hy
  exact W.bast hx hb hz.2 (zarr_at hW.1 (t := 2) rfl rfl) (fun q => by cases q) (by show ¬ (i < 0 ∨ (arrV _ _ _).slots.size ≤ _); rw [arrV_size]; exact hin) rfl rfl hdg fun H1 e1 z oq => g H1 _ ls (hI.put hg (e1.trans (congrArg some (zst_i _ _ _ _ (vp_nar .byte x)))) z oq) (hS.put z oq hz.1) hL
theorem z_zast (C : Cx X D B own cc ret hh nm post px rm) {a n : Nat} {f : Nat → Int32} {i x y : Int32} (hg : G a = some (.inl (3, n, .inl f))) (hin : vp_in i n) (hy : vp_nar .boolean x = y) (hdg : decode cc pc = .ok (.bastore, 1))
    (g : Z X (pc + 1) L rest (zup G a (.inl (3, n, .inl (upd f i.toNatClampNeg y)))) n0 k0) : Z X pc L (.int x :: .int i :: .ref a :: rest) G n0 k0 := by
  obtain ⟨p, l, e, R, s, m, args, below, meth, c, Q, D0, B0, nL⟩ := X
  obtain ⟨hx, hb, hml, hown, hts, hW, -, -, -, -, -, rfl, rfl, rfl, rfl, -⟩ := C
  intro H locs ls hI hS hL
  have hz := hI.2 a _ hg
  subst hy
  exact W.zast hx hb hz.2 (zarr_at hW.1 (t := 3) rfl rfl) (fun q => by cases q) (by show ¬ (i < 0 ∨ (arrV _ _ _).slots.size ≤ _); rw [arrV_size]; exact hin) rfl rfl hdg fun H1 e1 z oq => g H1 _ ls (hI.put hg (e1.trans (congrArg some (zst_i _ _ _ _ (vp_nar .boolean x)))) z oq) (hS.put z oq hz.1) hL
theorem z_last (C : Cx X D B own cc ret hh nm post px rm) {a n : Nat} {f : Nat → Int64} {i : Int32} {x : Int64} (hg : G a = some (.inl (1, n, .inr (.inl f)))) (hin : vp_in i n) (hdg : decode cc pc = .ok (.lastore, 1))
    (g : Z X (pc + 1) L rest (zup G a (.inl (1, n, .inr (.inl (vp_updL f i.toNatClampNeg x))))) n0 k0) : Z X pc L (.long x :: .int i :: .ref a :: rest) G n0 k0 := by
  obtain ⟨p, l, e, R, s, m, args, below, meth, c, Q, D0, B0, nL⟩ := X
  obtain ⟨hx, hb, hml, hown, hts, hW, -, -, -, -, -, rfl, rfl, rfl, rfl, -⟩ := C
  intro H locs ls hI hS hL
  have hz := hI.2 a _ hg
  exact W.last hx hb hz.2 (zarr_at hW.1 (t := 1) rfl rfl) (fun q => by cases q) (by show ¬ (i < 0 ∨ (arrV _ _ _).slots.size ≤ _); rw [arrV_size]; exact hin) rfl rfl hdg fun H1 e1 z oq => g H1 _ ls (hI.put hg (e1.trans (congrArg some (zst_l _ _ _ _ _))) z oq) (hS.put z oq hz.1) hL
theorem z_dast (C : Cx X D B own cc ret hh nm post px rm) {a n : Nat} {f : Nat → UInt64} {i : Int32} {x : UInt64} (hg : G a = some (.inl (4, n, .inr (.inr (.inr (.inl f)))))) (hin : vp_in i n) (hdg : decode cc pc = .ok (.dastore, 1))
    (g : Z X (pc + 1) L rest (zup G a (.inl (4, n, .inr (.inr (.inr (.inl (vf_upd f i.toNatClampNeg x))))))) n0 k0) : Z X pc L (.double x :: .int i :: .ref a :: rest) G n0 k0 := by
  obtain ⟨p, l, e, R, s, m, args, below, meth, c, Q, D0, B0, nL⟩ := X
  obtain ⟨hx, hb, hml, hown, hts, hW, -, -, -, -, -, rfl, rfl, rfl, rfl, -⟩ := C
  intro H locs ls hI hS hL
  have hz := hI.2 a _ hg
  exact W.dast hx hb hz.2 (zarr_at hW.1 (t := 4) rfl rfl) (fun q => by cases q) (by show ¬ (i < 0 ∨ (arrV _ _ _).slots.size ≤ _); rw [arrV_size]; exact hin) rfl rfl hdg fun H1 e1 z oq => g H1 _ ls (hI.put hg (e1.trans (congrArg some (zst_d _ _ _ _ _))) z oq) (hS.put z oq hz.1) hL
end ZR
