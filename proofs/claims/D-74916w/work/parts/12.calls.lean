/-! new cells, calls -/
section ZR2
variable {X : zX} {D : zG} {B : Nat} {own : String} {cc : ByteArray} {ret : Option FieldType} {hh : List (Nat × Nat × Nat × Nat)} {nm : String} {post : Option Value → zH → Prop} {px : String → Nat → zH → Prop} {rm : Room} {pc : Nat} {L : zLs} {rest : List Value} {G : zH} {n0 k0 : Nat}
def zfs0 : Nat → List Value
  | 0 => [.null, .null, .null, .int 0, .int 0, .int 0]
  | 1 => [.null, .null, .null, .int 0, .int 0, .int 0, .long 0, .int 0, .int 0, .null, .int 0, .null, .null]
  | 2 => [.int 0, .int 0, .int 0]
  | 3 => [.null, .null, .null, .null, .int 0, .null, .null, .null, .null, .null, .null, .int 0, .int 0, .int 0, .int 0, .int 0, .int 0, .int 0, .int 0, .long 0]
  | 4 => [.int 0, .int 0, .int 0]
  | 5 => [.null, .int 0, .int 0, .int 0, .null, .int 0]
  | 6 => [.int 0, .int 0, .int 0, .int 0, .null]
  | 7 => [.null, .int 0, .int 0]
  | 8 => [.int 0]
  | 9 => [.int 0, .null, .int 0, .int 0, .int 0, .int 0, .null, .null]
  | 10 => [.int 0, .null, .null, .null, .null, .null, .int 0]
  | 11 => [.int 0, .null, .null, .null, .null, .null, .int 0]
  | 12 => [.int 0, .null, .null, .null, .null, .null, .int 0]
  | 13 => [.int 0, .null, .int 0]
  | 14 => [.int 0, .int 0, .int 0, .null]
  | 15 => [.null, .int 0, .int 0, .int 0]
  | _ => [.null, .int 0, .int 0, .int 0]
def zty0 : Nat → Nat → FieldType
  | 0 => tyX1
  | 1 => tyX2
  | 2 => tyX3
  | 3 => tyX4
  | 4 => tyX5
  | 5 => tyX6
  | 6 => tyX7
  | 7 => tyX8
  | 8 => tyX11
  | 9 => tyX12
  | 10 => tyX14
  | 11 => tyX15
  | 12 => tyX16
  | 13 => tyJ2
  | 14 => tyJ22
  | 15 => tyJ8
  | _ => tyJ9
theorem zty_ok : ∀ ci r, zCL[ci]? = some r → (∀ k, k < r.2.2 → parseFieldDescriptor (r.2.1 k).2.2.1 = some (zty0 ci k)) ∧ ∀ k, k < r.2.2 → defaultValue (zty0 ci k) = vp_V (zfs0 ci) k := by
  intro ci r h
  match ci, h with
  | 0, h => cases h; exact ⟨tyX1_ok, by decide +kernel⟩
  | 1, h => cases h; exact ⟨tyX2_ok, by decide +kernel⟩
  | 2, h => cases h; exact ⟨tyX3_ok, by decide +kernel⟩
  | 3, h => cases h; exact ⟨tyX4_ok, by decide +kernel⟩
  | 4, h => cases h; exact ⟨tyX5_ok, by decide +kernel⟩
  | 5, h => cases h; exact ⟨tyX6_ok, by decide +kernel⟩
  | 6, h => cases h; exact ⟨tyX7_ok, by decide +kernel⟩
  | 7, h => cases h; exact ⟨tyX8_ok, by decide +kernel⟩
  | 8, h => cases h; exact ⟨tyX11_ok, by decide +kernel⟩
  | 9, h => cases h; exact ⟨tyX12_ok, by decide +kernel⟩
  | 10, h => cases h; exact ⟨tyX14_ok, by decide +kernel⟩
  | 11, h => cases h; exact ⟨tyX15_ok, by decide +kernel⟩
  | 12, h => cases h; exact ⟨tyX16_ok, by decide +kernel⟩
  | 13, h => cases h; exact ⟨tyJ2_ok, by decide +kernel⟩
  | 14, h => cases h; exact ⟨tyJ22_ok, by decide +kernel⟩
  | 15, h => cases h; exact ⟨tyJ8_ok, by decide +kernel⟩
  | 16, h => cases h; exact ⟨tyJ9_ok, by decide +kernel⟩
  | n + 17, h => exact absurd h (by simp [zCL])
theorem z_new (C : Cx X D B own cc ret hh nm post px rm) {ci index N0 : Nat} {C0 : String} {T0 : u_T} (hc : zCL[ci]? = some (C0, T0, N0)) (h1 : Cond.classLink own index C0 ∈ lw_all) (h2 : Cond.instantiable C0 N0 ∈ lw_all) (h3 : Cond.initialized C0 ∈ lw_all) (hcells : n0 + 1 ≤ rm.cells) (hslots : k0 + N0 ≤ rm.slots) (hdg : decode cc pc = .ok (.new index, 3))
    (g : ∀ q : Nat, G q = none → B ≤ q → Z X (pc + 3) L (.ref q :: rest) (zup G q (.inr (ci, zfs0 ci))) (n0 + 1) (k0 + N0)) : Z X pc L rest G n0 k0 := by
  obtain ⟨p, l, e, R, s, m, args, below, meth, c, Q, D0, B0, nL⟩ := X
  obtain ⟨hx, hb, hml, hown, hts, hW, -, -, -, -, -, rfl, rfl, rfl, rfl, -⟩ := C
  intro H locs ls hI hS hL
  obtain ⟨hty, hfs⟩ := zty_ok ci _ hc
  have hci : ci < 100 := Nat.lt_of_lt_of_le (List.getElem?_eq_some_iff.mp hc).1 (by decide)
  have hKn := hW.1.1 ci _ hc
  refine W.newcK hx hb hown (hts _ h1) (hts _ h2) (hts _ h3) rfl hdg hcells hslots hKn.2.1 rfl fun H1 kC hkC e1 z1 o1 => ?_
  have hin := (zcl_ok _ (List.mem_of_getElem? hc)).1
  obtain ⟨hn, hI1⟩ := hI.push (zP1' ⟨_, hc, (u_born (zty0 ci) hts hin hKn hkC e1 hty).to hfs⟩ hci) z1 o1
  exact g H.size hn hI.1 H1 locs ls hI1 ⟨Nat.le_trans hS.1 (by omega), fun x g1 g2 => (o1 x (Nat.lt_of_lt_of_le g1 hS.1)).trans (hS.2.1 x g1 g2), hS.2.2⟩ hL
theorem z_newarr (C : Cx X D B own cc ret hh nm post px rm) {atype : ArrayType} {ty : FieldType} {t N : Nat} {n : Int32} {x0 : vp_A} (hty : newarray.typeOf atype = ty) (ht : zTY[t]? = some ty) (hq : Cond.arrayClass ty ∈ lw_all) (hx0 : ∀ cA : ClassId, vp_cell cA x0 = arrV cA N (fun _ => defaultValue ty)) (hn : ¬ n < 0) (hN : n.toNatClampNeg = N) (hbytes : N * componentBytes ty ≤ 536870912) (hcells : n0 + 1 ≤ rm.cells) (hslots : k0 + N ≤ rm.slots) (hdg : decode cc pc = .ok (.newarray atype, 2))
    (g : ∀ q : Nat, G q = none → B ≤ q → Z X (pc + 2) L (.ref q :: rest) (zup G q (.inl (t, x0))) (n0 + 1) (k0 + N)) : Z X pc L (.int n :: rest) G n0 k0 := by
  obtain ⟨p, l, e, R, s, m, args, below, meth, c, Q, D0, B0, nL⟩ := X
  obtain ⟨hx, hb, hml, hown, hts, hW, -, -, -, -, -, rfl, rfl, rfl, rfl, -⟩ := C
  intro H locs ls hI hS hL
  subst hty
  refine va_newaK hx hb (hts _ hq) rfl hdg rfl hn hN hbytes hcells hslots rfl fun H1 cA e1 z1 o1 hAr hNm => ?_
  have hcA : cA = D0.2.2.1 t := by
    have h9 := (hW.1.2 t _ (zTYS_at ht)).2
    have h8 : s.vm.findClass ("[" ++ (newarray.typeOf atype).toString) = some (D0.2.2.1 t) := by cases atype <;> exact h9
    exact Option.some.inj (hNm.symm.trans h8)
  subst hcA
  obtain ⟨hn1, hI1⟩ := hI.push (e := .inl (t, x0)) (by show H1[H.size]? = some (vp_cell _ _); rw [hx0]; exact e1) z1 o1
  exact g H.size hn1 hI.1 H1 locs ls hI1 ⟨Nat.le_trans hS.1 (by omega), fun x g1 g2 => (o1 x (Nat.lt_of_lt_of_le g1 hS.1)).trans (hS.2.1 x g1 g2), hS.2.2⟩ hL
theorem z_anewarr (C : Cx X D B own cc ret hh nm post px rm) {index t N : Nat} {n : Int32} {C0 : String} (ht : zTY[t]? = some (.object C0)) (hao : C0 ∈ zAOs) (hq : Cond.classLink own index C0 ∈ lw_all) (hn : ¬ n < 0) (hN : n.toNatClampNeg = N) (hbytes : N * 4 ≤ 536870912) (hcells : n0 + 1 ≤ rm.cells) (hslots : k0 + N ≤ rm.slots) (hdg : decode cc pc = .ok (.anewarray index, 3))
    (g : ∀ q : Nat, G q = none → B ≤ q → Z X (pc + 3) L (.ref q :: rest) (zup G q (.inl (t, N, .inr (.inr (.inr (.inr fun _ => none)))))) (n0 + 1) (k0 + N)) : Z X pc L (.int n :: rest) G n0 k0 := by
  obtain ⟨p, l, e, R, s, m, args, below, meth, c, Q, D0, B0, nL⟩ := X
  obtain ⟨hx, hb, hml, hown, hts, hW, -, -, -, -, -, rfl, rfl, rfl, rfl, -⟩ := C
  intro H locs ls hI hS hL
  subst hN
  refine W.anew hx hb hown (hts _ hq) (va_AO.use (hW.2.2.1 _ hao)) rfl hdg rfl hn hbytes hcells hslots fun cA kA comp f1 f2 f3 f4 => ?_
  have hcA : cA = D0.2.2.1 t := by
    obtain ⟨kA9, comp9, -, -, -, h9⟩ := (hW.1.2 t _ (zTYS_at ht)).2
    exact Option.some.inj (f1.symm.trans h9)
  subst hcA
  generalize hH1 : H.push ({ cls := D0.2.2.1 t, slots := Array.replicate n.toNatClampNeg .null, vm := .none } : Cell) = H1
  have z1 : H1.size = H.size + 1 := by rw [← hH1, Array.size_push]
  have e1 : H1[H.size]? = some (arrV (D0.2.2.1 t) n.toNatClampNeg (fun _ => .null)) := by rw [← hH1, Array.getElem?_push_size, ← arrV_new]
  have o1 : ∀ q : Nat, q < H.size → H1[q]? = H[q]? := fun q hq => by rw [← hH1, Array.getElem?_push, if_neg (Nat.ne_of_lt hq)]
  obtain ⟨hn1, hI1⟩ := hI.push (e := .inl (t, n.toNatClampNeg, .inr (.inr (.inr (.inr fun _ => none))))) (by show H1[H.size]? = some (vp_cell _ _); rw [vp_cell_q]; exact e1) z1 o1
  exact g H.size hn1 hI.1 H1 locs ls hI1 ⟨Nat.le_trans hS.1 (by omega), fun x g1 g2 => (o1 x (Nat.lt_of_lt_of_le g1 hS.1)).trans (hS.2.1 x g1 g2), hS.2.2⟩ hL
/-! calls -/
theorem zfin {p : Program} {l : Launch} {e : Env} {R : Room} {s : State} {m : MethodId} {args : Array Value} {below : List Frame} {meth : Method} {c : Code} {Q : State → Prop} {nL mc ms : Nat} {H : Heap} {locs : List Loc} {ls : Array Slot} {st0 : List Value} {a : Array Value} {post' : Option Value → zH → Prop} {px' : String → Nat → zH → Prop}
    (hr : vx_Run p l e R s m args below meth c H locs n0 k0 mc ms (F0 m pc ls st0) rest (zQ D B post' a) (zQX D B px') (zA B)) (hS : va_S (zA B) s.heap H locs) (hL : zL nL L ls)
    (kk : ∀ (v : Option Value) (G' : zH), post' v G' → Z (p, l, e, R, s, m, args, below, meth, c, Q, D, B, nL) (pc + 3) L (v.toList ++ rest) G' (n0 + mc) (k0 + ms))
    (kx : ∀ (E : String) (q : Nat) (G' : zH), px' E q G' → ZX (p, l, e, R, s, m, args, below, meth, c, Q, D, B, nL) pc L rest E q G' (n0 + mc) (k0 + ms)) : W p l e R s m args below meth c H locs n0 k0 Q (F0 m pc ls st0) := by
  intro T hT X
  rcases hr T hT X with ⟨v, st₀, t, T', Lc, h0, X', hLc, e1, e2, ⟨⟨v', G', hv, hp, hI'⟩, hF⟩, st⟩ | ⟨q, st₀, t, T', Lc, E, ce, h0, X', hLc, e1, e2, ⟨⟨G', hp, hI'⟩, hF⟩, hce, hcv, hcl, st⟩
  · cases hv
    obtain ⟨k1, k2, k3⟩ := vx_keep h0 e1 hS (fun _ _ h => h) (fun _ h => h) hLc hF
    obtain ⟨t2, a1, b1⟩ := kk v G' hp T'.heap (locs ++ Lc) ls (by rw [e1]; exact hI') k3 hL T' rfl X'
    exact ⟨t2, st t2 a1, b1⟩
  · obtain ⟨k1, k2, k3⟩ := vx_keep h0 e1 hS (fun _ _ h => h) (fun _ h => h) hLc hF
    obtain ⟨t2, a1, b1⟩ := kx E q G' hp T'.heap (locs ++ Lc) ls ce (by rw [e1]; exact hI') k3 hL (by rw [e1]; exact hce) hcv hcl T' rfl X'
    exact ⟨t2, st.trans a1, b1⟩
theorem zfin5 {p : Program} {l : Launch} {e : Env} {R : Room} {s : State} {m : MethodId} {args : Array Value} {below : List Frame} {meth : Method} {c : Code} {Q : State → Prop} {nL mc ms : Nat} {H : Heap} {locs : List Loc} {ls : Array Slot} {st0 : List Value} {a : Array Value} {post' : Option Value → zH → Prop} {px' : String → Nat → zH → Prop}
    (hr : vx_Run5 p l e R s m args below meth c H locs n0 k0 mc ms (F0 m pc ls st0) rest (zQ D B post' a) (zQX D B px') (zA B)) (hS : va_S (zA B) s.heap H locs) (hL : zL nL L ls)
    (kk : ∀ (v : Option Value) (G' : zH), post' v G' → Z (p, l, e, R, s, m, args, below, meth, c, Q, D, B, nL) (pc + 5) L (v.toList ++ rest) G' (n0 + mc) (k0 + ms))
    (kx : ∀ (E : String) (q : Nat) (G' : zH), px' E q G' → ZX (p, l, e, R, s, m, args, below, meth, c, Q, D, B, nL) pc L rest E q G' (n0 + mc) (k0 + ms)) : W p l e R s m args below meth c H locs n0 k0 Q (F0 m pc ls st0) := by
  intro T hT X
  rcases hr T hT X with ⟨v, st₀, t, T', Lc, h0, X', hLc, e1, e2, ⟨⟨v', G', hv, hp, hI'⟩, hF⟩, st⟩ | ⟨q, st₀, t, T', Lc, E, ce, h0, X', hLc, e1, e2, ⟨⟨G', hp, hI'⟩, hF⟩, hce, hcv, hcl, st⟩
  · cases hv
    obtain ⟨k1, k2, k3⟩ := vx_keep h0 e1 hS (fun _ _ h => h) (fun _ h => h) hLc hF
    obtain ⟨t2, a1, b1⟩ := kk v G' hp T'.heap (locs ++ Lc) ls (by rw [e1]; exact hI') k3 hL T' rfl X'
    exact ⟨t2, st t2 a1, b1⟩
  · obtain ⟨k1, k2, k3⟩ := vx_keep h0 e1 hS (fun _ _ h => h) (fun _ h => h) hLc hF
    obtain ⟨t2, a1, b1⟩ := kx E q G' hp T'.heap (locs ++ Lc) ls ce (by rw [e1]; exact hI') k3 hL (by rw [e1]; exact hce) hcv hcl T' rfl X'
    exact ⟨t2, st.trans a1, b1⟩
/-- one of a method's arguments stands for the callee's: how many parameters it has -/
def znp (y : MethodName) (n : Nat) : Prop := y.cls ≠ "java/lang/invoke/MethodHandle" ∧ y.cls ≠ "java/lang/invoke/VarHandle" ∧ (parseMethodDescriptor y.desc).map (fun d => d.parameters.length) = some n
/-- a callee's room fits the caller's -/
def zroom (rm rm' : Room) (maxL : Nat) : Prop := rm'.frames + 1 ≤ rm.frames ∧ 8 + (maxL + 11) + rm'.locals ≤ rm.locals
theorem zPre {s : State} {H : Heap} {locs : List Loc} {av : List Value} (hW : Wd D B s) (hS : va_S (zA B) s.heap H locs) (hI : zI D B G H) : ∀ U : State, U.heap = H → s.WarmedH U.vm → va_Pc av (fun U => Wd D B U ∧ zI D B G U.heap) av.toArray U :=
  fun U hU hWm => ⟨rfl, hW.call hWm (fun a h1 h2 => by rw [hU]; exact hS.2.1 a h1 h2), by rw [hU]; exact hI⟩
variable {y : MethodName} {index np maxL : Nat} {bytes : ByteArray} {ret' : Option FieldType} {rm' : Room} {As st0 : List Value} {post' : Option Value → zH → Prop} {px' : String → Nat → zH → Prop}
theorem z_callS (C : Cx X D B own cc ret hh nm post px rm) (hM : Ct D B y (ws_ y bytes maxL ret') rm' As G post' px')
    (h1 : Cond.methodLink own index y ∈ lw_all) (h2 : Cond.static y ∈ lw_all) (h3 : Cond.initialized y.cls ∈ lw_all) (h4 : Cond.code y bytes maxL ret' ∈ lw_all) (hd : znp y np) (hR : zroom rm rm' maxL)
    (hst : st0 = As.reverse ++ rest) (hn : As.length = np) (hw : (rest.map fun v => v.category).sum ≤ 8) (hf : n0 + rm'.cells ≤ rm.cells ∧ k0 + rm'.slots ≤ rm.slots) (hdg : decode cc pc = .ok (.invokestatic index, 3))
    (kx : ∀ (E : String) (q : Nat) (G' : zH), px' E q G' → ZX X pc L rest E q G' (n0 + rm'.cells) (k0 + rm'.slots))
    (kk : ∀ (v : Option Value) (G' : zH), post' v G' → Z X (pc + 3) L (v.toList ++ rest) G' (n0 + rm'.cells) (k0 + rm'.slots)) : Z X pc L st0 G n0 k0 := by
  obtain ⟨p, l, e, R, s, m, args, below, meth, c, Q, D0, B0, nL⟩ := X
  obtain ⟨hx, hb, hml, hown, hts, hW, -, -, -, -, hsl, rfl, rfl, rfl, rfl, -⟩ := C
  intro H locs ls hI hS hL
  exact zfin (vx_runS (As := As) (rest := rest) ⟨hx, hb, hml, hown, hts⟩ (hM l hsl) (va_cwS np hts (lw_S h1 h2 h3 h4) rfl rfl rfl hd hR) ⟨zPc_blind, zPre hW hS hI⟩ rfl hn hL.2.1 hst (lv_room hw) hdg hf) hS hL kk kx
theorem z_callV (C : Cx X D B own cc ret hh nm post px rm) {b ci : Nat} {fs : List Value} {T0 : u_T} {N0 : Nat} (hg : G b = some (.inr (ci, fs))) (hc : zCL[ci]? = some (y.cls, T0, N0)) (hM : Ct D B y (ws_ y bytes maxL ret') rm' (.ref b :: As) G post' px')
    (h1 : Cond.methodLink own index y ∈ lw_all) (h2 : Cond.instanceMethod y ∈ lw_all) (h5 : Cond.selects y.cls y y ∈ lw_all) (h3 : Cond.initialized y.cls ∈ lw_all) (h4 : Cond.code y bytes maxL ret' ∈ lw_all) (hd : znp y np) (hR : zroom rm rm' maxL)
    (hst : st0 = As.reverse ++ .ref b :: rest) (hn : As.length = np) (hw : (rest.map fun v => v.category).sum ≤ 8) (hf : n0 + rm'.cells ≤ rm.cells ∧ k0 + rm'.slots ≤ rm.slots) (hdg : decode cc pc = .ok (.invokevirtual index, 3))
    (kx : ∀ (E : String) (q : Nat) (G' : zH), px' E q G' → ZX X pc L rest E q G' (n0 + rm'.cells) (k0 + rm'.slots))
    (kk : ∀ (v : Option Value) (G' : zH), post' v G' → Z X (pc + 3) L (v.toList ++ rest) G' (n0 + rm'.cells) (k0 + rm'.slots)) : Z X pc L st0 G n0 k0 := by
  obtain ⟨p, l, e, R, s, m, args, below, meth, c, Q, D0, B0, nL⟩ := X
  obtain ⟨hx, hb, hml, hown, hts, hW, -, -, -, -, hsl, rfl, rfl, rfl, rfl, -⟩ := C
  intro H locs ls hI hS hL
  have hci : ci < 100 := Nat.lt_of_lt_of_le (List.getElem?_eq_some_iff.mp hc).1 (by decide)
  exact zfin (vx_runV (C := y.cls) (As := As) (rest := rest) ⟨hx, hb, hml, hown, hts⟩ (hM l hsl) (cwV np hts (lw_V h1 h2 h5 h3 h4) rfl rfl rfl ⟨rfl, hd⟩ hR) ⟨zPc_blind, va_recv hW.1 (zP1 (hI.at hg) hci) (q0 := 0) hc rfl, zPre hW hS hI⟩ rfl hn hL.2.1 hst (lv_room hw) hdg hf) hS hL kk kx
theorem z_callI (C : Cx X D B own cc ret hh nm post px rm) {b : Nat} (hM : Ct D B y (ws_ y bytes maxL none) rm' (.ref b :: As) G post' px')
    (h1 : Cond.methodLink own index y ∈ lw_all) (h2 : Cond.instanceMethod y ∈ lw_all) (h3 : Cond.initialized y.cls ∈ lw_all) (h4 : Cond.code y bytes maxL none ∈ lw_all) (hy : y.name = "<init>") (hd : znp y np) (hR : zroom rm rm' maxL)
    (hst : st0 = As.reverse ++ .ref b :: rest) (hn : As.length = np) (hw : (rest.map fun v => v.category).sum ≤ 8) (hf : n0 + rm'.cells ≤ rm.cells ∧ k0 + rm'.slots ≤ rm.slots) (hdg : decode cc pc = .ok (.invokespecial index, 3))
    (kx : ∀ (E : String) (q : Nat) (G' : zH), px' E q G' → ZX X pc L rest E q G' (n0 + rm'.cells) (k0 + rm'.slots))
    (kk : ∀ (v : Option Value) (G' : zH), post' v G' → Z X (pc + 3) L (v.toList ++ rest) G' (n0 + rm'.cells) (k0 + rm'.slots)) : Z X pc L st0 G n0 k0 := by
  obtain ⟨p, l, e, R, s, m, args, below, meth, c, Q, D0, B0, nL⟩ := X
  obtain ⟨hx, hb, hml, hown, hts, hW, -, -, -, -, hsl, rfl, rfl, rfl, rfl, -⟩ := C
  intro H locs ls hI hS hL
  exact zfin (vx_runI (As := As) (rest := rest) ⟨hx, hb, hml, hown, hts⟩ (hM l hsl) (cwI np hts (lw_meth h4) rfl rfl rfl (hts _ h3) (hts _ h1) (hts _ h2) hy hd hR) ⟨zPc_blind, zPre hW hS hI⟩ rfl hn hL.2.1 hst (lv_room hw) hdg hf) hS hL kk kx
theorem z_callVN (C : Cx X D B own cc ret hh nm post px rm) {b ci : Nat} {fs : List Value} {T0 : u_T} {N0 : Nat} {host : String} (hg : G b = some (.inr (ci, fs))) (hc : zCL[ci]? = some (y.cls, T0, N0)) (hM : Ct D B y (ws_ y bytes maxL ret') rm' (.ref b :: As) G post' px')
    (h1 : Cond.methodLinkNest own index y host ∈ lw_tbl) (h2 : Cond.instanceMethod y ∈ lw_all) (h5 : Cond.selects y.cls y y ∈ lw_all) (h3 : Cond.initialized y.cls ∈ lw_all) (h4 : Cond.code y bytes maxL ret' ∈ lw_all) (hd : znp y np) (hR : zroom rm rm' maxL)
    (hst : st0 = As.reverse ++ .ref b :: rest) (hn : As.length = np) (hw : (rest.map fun v => v.category).sum ≤ 8) (hf : n0 + rm'.cells ≤ rm.cells ∧ k0 + rm'.slots ≤ rm.slots) (hdg : decode cc pc = .ok (.invokevirtual index, 3))
    (kx : ∀ (E : String) (q : Nat) (G' : zH), px' E q G' → ZX X pc L rest E q G' (n0 + rm'.cells) (k0 + rm'.slots))
    (kk : ∀ (v : Option Value) (G' : zH), post' v G' → Z X (pc + 3) L (v.toList ++ rest) G' (n0 + rm'.cells) (k0 + rm'.slots)) : Z X pc L st0 G n0 k0 := by
  obtain ⟨p, l, e, R, s, m, args, below, meth, c, Q, D0, B0, nL⟩ := X
  obtain ⟨hx, hb, hml, hown, hts, hW, -, -, -, -, hsl, rfl, rfl, rfl, rfl, -⟩ := C
  intro H locs ls hI hS hL
  have hci : ci < 100 := Nat.lt_of_lt_of_le (List.getElem?_eq_some_iff.mp hc).1 (by decide)
  exact zfin (vx_runVN (C := y.cls) (As := As) (rest := rest) ⟨hx, hb, hml, hown, hts⟩ (hM l hsl) ⟨va_cnB np hts (lw_meth h4) rfl rfl rfl (hW.2.1 _ h1 rfl) (hts _ h3) hd hR, hts _ h2, hts _ h5⟩ ⟨zPc_blind, va_recv hW.1 (zP1 (hI.at hg) hci) (q0 := 0) hc rfl, zPre hW hS hI⟩ rfl hn hL.2.1 hst (lv_room hw) hdg hf) hS hL kk kx
theorem z_callSN (C : Cx X D B own cc ret hh nm post px rm) {host : String} (hM : Ct D B y (ws_ y bytes maxL ret') rm' As G post' px')
    (h1 : Cond.methodLinkNest own index y host ∈ lw_tbl) (h2 : Cond.static y ∈ lw_all) (h3 : Cond.initialized y.cls ∈ lw_all) (h4 : Cond.code y bytes maxL ret' ∈ lw_all) (hd : znp y np) (hR : zroom rm rm' maxL)
    (hst : st0 = As.reverse ++ rest) (hn : As.length = np) (hw : (rest.map fun v => v.category).sum ≤ 8) (hf : n0 + rm'.cells ≤ rm.cells ∧ k0 + rm'.slots ≤ rm.slots) (hdg : decode cc pc = .ok (.invokestatic index, 3))
    (kx : ∀ (E : String) (q : Nat) (G' : zH), px' E q G' → ZX X pc L rest E q G' (n0 + rm'.cells) (k0 + rm'.slots))
    (kk : ∀ (v : Option Value) (G' : zH), post' v G' → Z X (pc + 3) L (v.toList ++ rest) G' (n0 + rm'.cells) (k0 + rm'.slots)) : Z X pc L st0 G n0 k0 := by
  obtain ⟨p, l, e, R, s, m, args, below, meth, c, Q, D0, B0, nL⟩ := X
  obtain ⟨hx, hb, hml, hown, hts, hW, -, -, -, -, hsl, rfl, rfl, rfl, rfl, -⟩ := C
  intro H locs ls hI hS hL
  exact zfin (vx_runSN (As := As) (rest := rest) ⟨hx, hb, hml, hown, hts⟩ (hM l hsl) ⟨va_cnB np hts (lw_meth h4) rfl rfl rfl (hW.2.1 _ h1 rfl) (hts _ h3) hd hR, hts _ h2, trivial⟩ ⟨zPc_blind, zPre hW hS hI⟩ rfl hn hL.2.1 hst (lv_room hw) hdg hf) hS hL kk kx
theorem z_callIN (C : Cx X D B own cc ret hh nm post px rm) {b : Nat} {host : String} (hM : Ct D B y (ws_ y bytes maxL none) rm' (.ref b :: As) G post' px')
    (h1 : Cond.methodLinkNest own index y host ∈ lw_tbl) (h2 : Cond.instanceMethod y ∈ lw_all) (h3 : Cond.initialized y.cls ∈ lw_all) (h4 : Cond.code y bytes maxL none ∈ lw_all) (hy : y.name = "<init>") (hd : znp y np) (hR : zroom rm rm' maxL)
    (hst : st0 = As.reverse ++ .ref b :: rest) (hn : As.length = np) (hw : (rest.map fun v => v.category).sum ≤ 8) (hf : n0 + rm'.cells ≤ rm.cells ∧ k0 + rm'.slots ≤ rm.slots) (hdg : decode cc pc = .ok (.invokespecial index, 3))
    (kx : ∀ (E : String) (q : Nat) (G' : zH), px' E q G' → ZX X pc L rest E q G' (n0 + rm'.cells) (k0 + rm'.slots))
    (kk : ∀ (v : Option Value) (G' : zH), post' v G' → Z X (pc + 3) L (v.toList ++ rest) G' (n0 + rm'.cells) (k0 + rm'.slots)) : Z X pc L st0 G n0 k0 := by
  obtain ⟨p, l, e, R, s, m, args, below, meth, c, Q, D0, B0, nL⟩ := X
  obtain ⟨hx, hb, hml, hown, hts, hW, -, -, -, -, hsl, rfl, rfl, rfl, rfl, -⟩ := C
  intro H locs ls hI hS hL
  exact zfin (vx_runIN (As := As) (rest := rest) ⟨hx, hb, hml, hown, hts⟩ (hM l hsl) ⟨va_cnB np hts (lw_meth h4) rfl rfl rfl (hW.2.1 _ h1 rfl) (hts _ h3) hd hR, hy, hts _ h2⟩ ⟨zPc_blind, zPre hW hS hI⟩ rfl hn hL.2.1 hst (lv_room hw) hdg hf) hS hL kk kx
theorem z_objInit (C : Cx X D B own cc ret hh nm post px rm) {a : Nat} (h1 : Cond.methodLink own index Lib.objectInit ∈ lw_all) (h2 : Cond.instanceMethod Lib.objectInit ∈ lw_all) (h3 : Cond.code Lib.objectInit ⟨#[0xb1]⟩ 1 none ∈ lw_all) (hf : 1 ≤ rm.frames) (hl : (rest.map fun v => v.category).sum + 12 ≤ rm.locals) (hdg : decode cc pc = .ok (.invokespecial index, 3))
    (g : Z X (pc + 3) L rest G n0 k0) : Z X pc L (.ref a :: rest) G n0 k0 := by
  obtain ⟨p, l, e, R, s, m, args, below, meth, c, Q, D0, B0, nL⟩ := X
  obtain ⟨hx, hb, hml, hown, hts, hW, -, -, -, -, hsl, rfl, rfl, rfl, rfl, -⟩ := C
  intro H locs ls hI hS hL
  refine W.objInit hx hb hown (hts _ h1) (hts _ h2) (hts _ h3) rfl (by rw [hml]; exact hL.2.1) rfl hdg hf ?_ (g H locs ls hI hS hL)
  show 2 * 0 + _ + 12 ≤ _
  omega
theorem z_callSn (C : Cx X D B own cc ret hh nm post px rm) (hM : Ct D B y (ws_ y bytes maxL ret') rm' As G post' zno)
    (h1 : Cond.methodLink own index y ∈ lw_all) (h2 : Cond.static y ∈ lw_all) (h3 : Cond.initialized y.cls ∈ lw_all) (h4 : Cond.code y bytes maxL ret' ∈ lw_all) (hd : znp y np) (hR : zroom rm rm' maxL)
    (hst : st0 = As.reverse ++ rest) (hn : As.length = np) (hw : (rest.map fun v => v.category).sum ≤ 8) (hf : n0 + rm'.cells ≤ rm.cells ∧ k0 + rm'.slots ≤ rm.slots) (hdg : decode cc pc = .ok (.invokestatic index, 3))
    (kk : ∀ (v : Option Value) (G' : zH), post' v G' → Z X (pc + 3) L (v.toList ++ rest) G' (n0 + rm'.cells) (k0 + rm'.slots)) : Z X pc L st0 G n0 k0 :=
  z_callS C hM h1 h2 h3 h4 hd hR hst hn hw hf hdg (fun _ _ _ h => False.elim h) kk
theorem z_callSe {w : Option Value} {G1 : zH} (C : Cx X D B own cc ret hh nm post px rm) (hM : Ct D B y (ws_ y bytes maxL ret') rm' As G (zpe w G1) zno)
    (h1 : Cond.methodLink own index y ∈ lw_all) (h2 : Cond.static y ∈ lw_all) (h3 : Cond.initialized y.cls ∈ lw_all) (h4 : Cond.code y bytes maxL ret' ∈ lw_all) (hd : znp y np) (hR : zroom rm rm' maxL)
    (hst : st0 = As.reverse ++ rest) (hn : As.length = np) (hw : (rest.map fun v => v.category).sum ≤ 8) (hf : n0 + rm'.cells ≤ rm.cells ∧ k0 + rm'.slots ≤ rm.slots) (hdg : decode cc pc = .ok (.invokestatic index, 3))
    (g : Z X (pc + 3) L (w.toList ++ rest) G1 (n0 + rm'.cells) (k0 + rm'.slots)) : Z X pc L st0 G n0 k0 :=
  z_callS C hM h1 h2 h3 h4 hd hR hst hn hw hf hdg (fun _ _ _ h => False.elim h) (fun v G' h => by obtain ⟨rfl, rfl⟩ := h; exact g)
theorem z_callVn (C : Cx X D B own cc ret hh nm post px rm) {b ci : Nat} {fs : List Value} {T0 : u_T} {N0 : Nat} (hg : G b = some (.inr (ci, fs))) (hc : zCL[ci]? = some (y.cls, T0, N0)) (hM : Ct D B y (ws_ y bytes maxL ret') rm' (.ref b :: As) G post' zno)
    (h1 : Cond.methodLink own index y ∈ lw_all) (h2 : Cond.instanceMethod y ∈ lw_all) (h5 : Cond.selects y.cls y y ∈ lw_all) (h3 : Cond.initialized y.cls ∈ lw_all) (h4 : Cond.code y bytes maxL ret' ∈ lw_all) (hd : znp y np) (hR : zroom rm rm' maxL)
    (hst : st0 = As.reverse ++ .ref b :: rest) (hn : As.length = np) (hw : (rest.map fun v => v.category).sum ≤ 8) (hf : n0 + rm'.cells ≤ rm.cells ∧ k0 + rm'.slots ≤ rm.slots) (hdg : decode cc pc = .ok (.invokevirtual index, 3))
    (kk : ∀ (v : Option Value) (G' : zH), post' v G' → Z X (pc + 3) L (v.toList ++ rest) G' (n0 + rm'.cells) (k0 + rm'.slots)) : Z X pc L st0 G n0 k0 :=
  z_callV C hg hc hM h1 h2 h5 h3 h4 hd hR hst hn hw hf hdg (fun _ _ _ h => False.elim h) kk
theorem z_callVe {w : Option Value} {G1 : zH} (C : Cx X D B own cc ret hh nm post px rm) {b ci : Nat} {fs : List Value} {T0 : u_T} {N0 : Nat} (hg : G b = some (.inr (ci, fs))) (hc : zCL[ci]? = some (y.cls, T0, N0)) (hM : Ct D B y (ws_ y bytes maxL ret') rm' (.ref b :: As) G (zpe w G1) zno)
    (h1 : Cond.methodLink own index y ∈ lw_all) (h2 : Cond.instanceMethod y ∈ lw_all) (h5 : Cond.selects y.cls y y ∈ lw_all) (h3 : Cond.initialized y.cls ∈ lw_all) (h4 : Cond.code y bytes maxL ret' ∈ lw_all) (hd : znp y np) (hR : zroom rm rm' maxL)
    (hst : st0 = As.reverse ++ .ref b :: rest) (hn : As.length = np) (hw : (rest.map fun v => v.category).sum ≤ 8) (hf : n0 + rm'.cells ≤ rm.cells ∧ k0 + rm'.slots ≤ rm.slots) (hdg : decode cc pc = .ok (.invokevirtual index, 3))
    (g : Z X (pc + 3) L (w.toList ++ rest) G1 (n0 + rm'.cells) (k0 + rm'.slots)) : Z X pc L st0 G n0 k0 :=
  z_callV C hg hc hM h1 h2 h5 h3 h4 hd hR hst hn hw hf hdg (fun _ _ _ h => False.elim h) (fun v G' h => by obtain ⟨rfl, rfl⟩ := h; exact g)
theorem z_callIn (C : Cx X D B own cc ret hh nm post px rm) {b : Nat} (hM : Ct D B y (ws_ y bytes maxL none) rm' (.ref b :: As) G post' zno)
    (h1 : Cond.methodLink own index y ∈ lw_all) (h2 : Cond.instanceMethod y ∈ lw_all) (h3 : Cond.initialized y.cls ∈ lw_all) (h4 : Cond.code y bytes maxL none ∈ lw_all) (hy : y.name = "<init>") (hd : znp y np) (hR : zroom rm rm' maxL)
    (hst : st0 = As.reverse ++ .ref b :: rest) (hn : As.length = np) (hw : (rest.map fun v => v.category).sum ≤ 8) (hf : n0 + rm'.cells ≤ rm.cells ∧ k0 + rm'.slots ≤ rm.slots) (hdg : decode cc pc = .ok (.invokespecial index, 3))
    (kk : ∀ (v : Option Value) (G' : zH), post' v G' → Z X (pc + 3) L (v.toList ++ rest) G' (n0 + rm'.cells) (k0 + rm'.slots)) : Z X pc L st0 G n0 k0 :=
  z_callI C hM h1 h2 h3 h4 hy hd hR hst hn hw hf hdg (fun _ _ _ h => False.elim h) kk
theorem z_callIe {w : Option Value} {G1 : zH} (C : Cx X D B own cc ret hh nm post px rm) {b : Nat} (hM : Ct D B y (ws_ y bytes maxL none) rm' (.ref b :: As) G (zpe w G1) zno)
    (h1 : Cond.methodLink own index y ∈ lw_all) (h2 : Cond.instanceMethod y ∈ lw_all) (h3 : Cond.initialized y.cls ∈ lw_all) (h4 : Cond.code y bytes maxL none ∈ lw_all) (hy : y.name = "<init>") (hd : znp y np) (hR : zroom rm rm' maxL)
    (hst : st0 = As.reverse ++ .ref b :: rest) (hn : As.length = np) (hw : (rest.map fun v => v.category).sum ≤ 8) (hf : n0 + rm'.cells ≤ rm.cells ∧ k0 + rm'.slots ≤ rm.slots) (hdg : decode cc pc = .ok (.invokespecial index, 3))
    (g : Z X (pc + 3) L (w.toList ++ rest) G1 (n0 + rm'.cells) (k0 + rm'.slots)) : Z X pc L st0 G n0 k0 :=
  z_callI C hM h1 h2 h3 h4 hy hd hR hst hn hw hf hdg (fun _ _ _ h => False.elim h) (fun v G' h => by obtain ⟨rfl, rfl⟩ := h; exact g)
theorem z_callVNn (C : Cx X D B own cc ret hh nm post px rm) {b ci : Nat} {fs : List Value} {T0 : u_T} {N0 : Nat} {host : String} (hg : G b = some (.inr (ci, fs))) (hc : zCL[ci]? = some (y.cls, T0, N0)) (hM : Ct D B y (ws_ y bytes maxL ret') rm' (.ref b :: As) G post' zno)
    (h1 : Cond.methodLinkNest own index y host ∈ lw_tbl) (h2 : Cond.instanceMethod y ∈ lw_all) (h5 : Cond.selects y.cls y y ∈ lw_all) (h3 : Cond.initialized y.cls ∈ lw_all) (h4 : Cond.code y bytes maxL ret' ∈ lw_all) (hd : znp y np) (hR : zroom rm rm' maxL)
    (hst : st0 = As.reverse ++ .ref b :: rest) (hn : As.length = np) (hw : (rest.map fun v => v.category).sum ≤ 8) (hf : n0 + rm'.cells ≤ rm.cells ∧ k0 + rm'.slots ≤ rm.slots) (hdg : decode cc pc = .ok (.invokevirtual index, 3))
    (kk : ∀ (v : Option Value) (G' : zH), post' v G' → Z X (pc + 3) L (v.toList ++ rest) G' (n0 + rm'.cells) (k0 + rm'.slots)) : Z X pc L st0 G n0 k0 :=
  z_callVN C hg hc hM h1 h2 h5 h3 h4 hd hR hst hn hw hf hdg (fun _ _ _ h => False.elim h) kk
theorem z_callVNe {w : Option Value} {G1 : zH} (C : Cx X D B own cc ret hh nm post px rm) {b ci : Nat} {fs : List Value} {T0 : u_T} {N0 : Nat} {host : String} (hg : G b = some (.inr (ci, fs))) (hc : zCL[ci]? = some (y.cls, T0, N0)) (hM : Ct D B y (ws_ y bytes maxL ret') rm' (.ref b :: As) G (zpe w G1) zno)
    (h1 : Cond.methodLinkNest own index y host ∈ lw_tbl) (h2 : Cond.instanceMethod y ∈ lw_all) (h5 : Cond.selects y.cls y y ∈ lw_all) (h3 : Cond.initialized y.cls ∈ lw_all) (h4 : Cond.code y bytes maxL ret' ∈ lw_all) (hd : znp y np) (hR : zroom rm rm' maxL)
    (hst : st0 = As.reverse ++ .ref b :: rest) (hn : As.length = np) (hw : (rest.map fun v => v.category).sum ≤ 8) (hf : n0 + rm'.cells ≤ rm.cells ∧ k0 + rm'.slots ≤ rm.slots) (hdg : decode cc pc = .ok (.invokevirtual index, 3))
    (g : Z X (pc + 3) L (w.toList ++ rest) G1 (n0 + rm'.cells) (k0 + rm'.slots)) : Z X pc L st0 G n0 k0 :=
  z_callVN C hg hc hM h1 h2 h5 h3 h4 hd hR hst hn hw hf hdg (fun _ _ _ h => False.elim h) (fun v G' h => by obtain ⟨rfl, rfl⟩ := h; exact g)
theorem z_callSNn (C : Cx X D B own cc ret hh nm post px rm) {host : String} (hM : Ct D B y (ws_ y bytes maxL ret') rm' As G post' zno)
    (h1 : Cond.methodLinkNest own index y host ∈ lw_tbl) (h2 : Cond.static y ∈ lw_all) (h3 : Cond.initialized y.cls ∈ lw_all) (h4 : Cond.code y bytes maxL ret' ∈ lw_all) (hd : znp y np) (hR : zroom rm rm' maxL)
    (hst : st0 = As.reverse ++ rest) (hn : As.length = np) (hw : (rest.map fun v => v.category).sum ≤ 8) (hf : n0 + rm'.cells ≤ rm.cells ∧ k0 + rm'.slots ≤ rm.slots) (hdg : decode cc pc = .ok (.invokestatic index, 3))
    (kk : ∀ (v : Option Value) (G' : zH), post' v G' → Z X (pc + 3) L (v.toList ++ rest) G' (n0 + rm'.cells) (k0 + rm'.slots)) : Z X pc L st0 G n0 k0 :=
  z_callSN C hM h1 h2 h3 h4 hd hR hst hn hw hf hdg (fun _ _ _ h => False.elim h) kk
theorem z_callSNe {w : Option Value} {G1 : zH} (C : Cx X D B own cc ret hh nm post px rm) {host : String} (hM : Ct D B y (ws_ y bytes maxL ret') rm' As G (zpe w G1) zno)
    (h1 : Cond.methodLinkNest own index y host ∈ lw_tbl) (h2 : Cond.static y ∈ lw_all) (h3 : Cond.initialized y.cls ∈ lw_all) (h4 : Cond.code y bytes maxL ret' ∈ lw_all) (hd : znp y np) (hR : zroom rm rm' maxL)
    (hst : st0 = As.reverse ++ rest) (hn : As.length = np) (hw : (rest.map fun v => v.category).sum ≤ 8) (hf : n0 + rm'.cells ≤ rm.cells ∧ k0 + rm'.slots ≤ rm.slots) (hdg : decode cc pc = .ok (.invokestatic index, 3))
    (g : Z X (pc + 3) L (w.toList ++ rest) G1 (n0 + rm'.cells) (k0 + rm'.slots)) : Z X pc L st0 G n0 k0 :=
  z_callSN C hM h1 h2 h3 h4 hd hR hst hn hw hf hdg (fun _ _ _ h => False.elim h) (fun v G' h => by obtain ⟨rfl, rfl⟩ := h; exact g)
theorem z_callINn (C : Cx X D B own cc ret hh nm post px rm) {b : Nat} {host : String} (hM : Ct D B y (ws_ y bytes maxL none) rm' (.ref b :: As) G post' zno)
    (h1 : Cond.methodLinkNest own index y host ∈ lw_tbl) (h2 : Cond.instanceMethod y ∈ lw_all) (h3 : Cond.initialized y.cls ∈ lw_all) (h4 : Cond.code y bytes maxL none ∈ lw_all) (hy : y.name = "<init>") (hd : znp y np) (hR : zroom rm rm' maxL)
    (hst : st0 = As.reverse ++ .ref b :: rest) (hn : As.length = np) (hw : (rest.map fun v => v.category).sum ≤ 8) (hf : n0 + rm'.cells ≤ rm.cells ∧ k0 + rm'.slots ≤ rm.slots) (hdg : decode cc pc = .ok (.invokespecial index, 3))
    (kk : ∀ (v : Option Value) (G' : zH), post' v G' → Z X (pc + 3) L (v.toList ++ rest) G' (n0 + rm'.cells) (k0 + rm'.slots)) : Z X pc L st0 G n0 k0 :=
  z_callIN C hM h1 h2 h3 h4 hy hd hR hst hn hw hf hdg (fun _ _ _ h => False.elim h) kk
theorem z_callINe {w : Option Value} {G1 : zH} (C : Cx X D B own cc ret hh nm post px rm) {b : Nat} {host : String} (hM : Ct D B y (ws_ y bytes maxL none) rm' (.ref b :: As) G (zpe w G1) zno)
    (h1 : Cond.methodLinkNest own index y host ∈ lw_tbl) (h2 : Cond.instanceMethod y ∈ lw_all) (h3 : Cond.initialized y.cls ∈ lw_all) (h4 : Cond.code y bytes maxL none ∈ lw_all) (hy : y.name = "<init>") (hd : znp y np) (hR : zroom rm rm' maxL)
    (hst : st0 = As.reverse ++ .ref b :: rest) (hn : As.length = np) (hw : (rest.map fun v => v.category).sum ≤ 8) (hf : n0 + rm'.cells ≤ rm.cells ∧ k0 + rm'.slots ≤ rm.slots) (hdg : decode cc pc = .ok (.invokespecial index, 3))
    (g : Z X (pc + 3) L (w.toList ++ rest) G1 (n0 + rm'.cells) (k0 + rm'.slots)) : Z X pc L st0 G n0 k0 :=
  z_callIN C hM h1 h2 h3 h4 hy hd hR hst hn hw hf hdg (fun _ _ _ h => False.elim h) (fun v G' h => by obtain ⟨rfl, rfl⟩ := h; exact g)
end ZR2
