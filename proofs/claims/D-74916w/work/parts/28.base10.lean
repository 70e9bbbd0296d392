/-! rows: forgetting cells, casts, references in arrays, copies, clones, classes -/
section ZR6
variable {X : zX} {D : zG} {B : Nat} {own : String} {cc : ByteArray} {ret : Option FieldType} {hh : List (Nat × Nat × Nat × Nat)} {nm : String} {post : Option Value → zH → Prop} {px : String → Nat → zH → Prop} {rm : Room} {pc : Nat} {L : zLs} {rest : List Value} {G : zH} {n0 k0 : Nat}
/-- cells are forgotten -/
theorem z_sub {G' : zH} {st : List Value} (h : ∀ a e, G' a = some e → G a = some e) (g : Z X pc L st G' n0 k0) : Z X pc L st G n0 k0 := by
  obtain ⟨p, l, e, R, s, m, args, below, meth, c, Q, D0, B0, nL⟩ := X
  intro H locs ls hI hS hL
  exact g H locs ls ⟨hI.1, fun a e h' => hI.2 a e (h a e h')⟩ hS hL
theorem zX_sub {G' : zH} {st : List Value} {E : String} {q : Nat} (h : ∀ a e, G' a = some e → G a = some e) (g : ZX X pc L st E q G' n0 k0) : ZX X pc L st E q G n0 k0 := by
  obtain ⟨p, l, e, R, s, m, args, below, meth, c, Q, D0, B0, nL⟩ := X
  intro H locs ls ce hI hS hL
  exact g H locs ls ce ⟨hI.1, fun a e h' => hI.2 a e (h a e h')⟩ hS hL
theorem zrcv {s : State} {a ci : Nat} {fs : List Value} {H : Heap} {C0 : String} {T0 : u_T} {N0 : Nat} (hK : va_K (D.1, D.2.1) zCL (zTYS D) s) (h : z_at D a (.inr (ci, fs)) H) (hc : zCL[ci]? = some (C0, T0, N0)) : ∃ cell : Cell, H[a]? = some cell ∧ cell.vm.isStatics = false ∧ s.vm.findClass C0 = some cell.cls :=
  va_recv hK (zP1 h (Nat.lt_of_lt_of_le (List.getElem?_eq_some_iff.mp hc).1 (by decide))) (q0 := 0) hc rfl
theorem z_castY (C : Cx X D B own cc ret hh nm post px rm) {a ci index N0 : Nat} {fs : List Value} {C0 nme : String} {T0 : u_T} (hg : G a = some (.inr (ci, fs))) (hc : zCL[ci]? = some (C0, T0, N0)) (hl : Cond.classLink own index nme ∈ lw_all) (hw : Cond.castable C0 nme ∈ lw_tbl) (hdg : decode cc pc = .ok (.checkcast index, 3))
    (g : Z X (pc + 3) L (.ref a :: rest) G n0 k0) : Z X pc L (.ref a :: rest) G n0 k0 := by
  obtain ⟨p, l, e, R, s, m, args, below, meth, c, Q, D0, B0, nL⟩ := X
  obtain ⟨hx, hb, hml, hown, hts, hW, -, -, -, -, -, rfl, rfl, rfl, rfl, -⟩ := C
  intro H locs ls hI hS hL
  exact va_castY hx hb hown (hts _ hl) (hW.2.1 _ hw rfl) (zrcv hW.1 (hI.at hg) hc) hdg (g H locs ls hI hS hL)
theorem z_castS (C : Cx X D B own cc ret hh nm post px rm) {a ci index N0 : Nat} {fs : List Value} {C0 : String} {T0 : u_T} (hg : G a = some (.inr (ci, fs))) (hc : zCL[ci]? = some (C0, T0, N0)) (hl : Cond.classLink own index C0 ∈ lw_all) (hdg : decode cc pc = .ok (.checkcast index, 3))
    (g : Z X (pc + 3) L (.ref a :: rest) G n0 k0) : Z X pc L (.ref a :: rest) G n0 k0 := by
  obtain ⟨p, l, e, R, s, m, args, below, meth, c, Q, D0, B0, nL⟩ := X
  obtain ⟨hx, hb, hml, hown, hts, hW, -, -, -, -, -, rfl, rfl, rfl, rfl, -⟩ := C
  intro H locs ls hI hS hL
  exact va_castS hx hb hown (hts _ hl) (hW.1.1 ci _ hc).2 (zrcv hW.1 (hI.at hg) hc) hdg (g H locs ls hI hS hL)
theorem z_instS (C : Cx X D B own cc ret hh nm post px rm) {a ci index N0 : Nat} {fs : List Value} {C0 : String} {T0 : u_T} (hg : G a = some (.inr (ci, fs))) (hc : zCL[ci]? = some (C0, T0, N0)) (hl : Cond.classLink own index C0 ∈ lw_all) (hdg : decode cc pc = .ok (.instanceof index, 3))
    (g : Z X (pc + 3) L (.int 1 :: rest) G n0 k0) : Z X pc L (.ref a :: rest) G n0 k0 := by
  obtain ⟨p, l, e, R, s, m, args, below, meth, c, Q, D0, B0, nL⟩ := X
  obtain ⟨hx, hb, hml, hown, hts, hW, -, -, -, -, -, rfl, rfl, rfl, rfl, -⟩ := C
  intro H locs ls hI hS hL
  exact va_instS hx hb hown (hts _ hl) (hW.1.1 ci _ hc).2 (zrcv hW.1 (hI.at hg) hc) hdg (g H locs ls hI hS hL)
theorem z_instY (C : Cx X D B own cc ret hh nm post px rm) {a ci index N0 : Nat} {fs : List Value} {C0 nme : String} {T0 : u_T} (hg : G a = some (.inr (ci, fs))) (hc : zCL[ci]? = some (C0, T0, N0)) (hl : Cond.classLink own index nme ∈ lw_all) (hw : Cond.castable C0 nme ∈ lw_tbl) (hdg : decode cc pc = .ok (.instanceof index, 3))
    (g : Z X (pc + 3) L (.int 1 :: rest) G n0 k0) : Z X pc L (.ref a :: rest) G n0 k0 := by
  obtain ⟨p, l, e, R, s, m, args, below, meth, c, Q, D0, B0, nL⟩ := X
  obtain ⟨hx, hb, hml, hown, hts, hW, -, -, -, -, -, rfl, rfl, rfl, rfl, -⟩ := C
  intro H locs ls hI hS hL
  exact va_instY hx hb hown (hts _ hl) (hW.2.1 _ hw rfl) (zrcv hW.1 (hI.at hg) hc) hdg (g H locs ls hI hS hL)
theorem z_instNo (C : Cx X D B own cc ret hh nm post px rm) {a ci index N0 : Nat} {fs : List Value} {C0 nme : String} {T0 : u_T} (hg : G a = some (.inr (ci, fs))) (hc : zCL[ci]? = some (C0, T0, N0)) (hl : Cond.classLink own index nme ∈ lw_all) (hw : (C0, nme) ∈ zNCs) (hdg : decode cc pc = .ok (.instanceof index, 3))
    (g : Z X (pc + 3) L (.int 0 :: rest) G n0 k0) : Z X pc L (.ref a :: rest) G n0 k0 := by
  obtain ⟨p, l, e, R, s, m, args, below, meth, c, Q, D0, B0, nL⟩ := X
  obtain ⟨hx, hb, hml, hown, hts, hW, -, -, -, -, -, rfl, rfl, rfl, rfl, -⟩ := C
  intro H locs ls hI hS hL
  exact va_instNo hx hb hown (hts _ hl) (hW.2.2.2.2.1 _ hw) (zrcv hW.1 (hI.at hg) hc) hdg (g H locs ls hI hS hL)
theorem znmB {s : State} (hK : va_K (D.1, D.2.1) zCL (zTYS D) s) : s.vm.findClass "[B" = some (D.2.2.1 2) := (hK.2 _ _ (zTYS_at (D := D) (t := 2) rfl)).2
theorem znmI {s : State} (hK : va_K (D.1, D.2.1) zCL (zTYS D) s) : s.vm.findClass "[I" = some (D.2.2.1 0) := (hK.2 _ _ (zTYS_at (D := D) (t := 0) rfl)).2
theorem z_castB (C : Cx X D B own cc ret hh nm post px rm) {a index : Nat} {x : vp_A} (hg : G a = some (.inl (2, x))) (hl : Cond.classLink own index "[B" ∈ lw_all) (hdg : decode cc pc = .ok (.checkcast index, 3))
    (g : Z X (pc + 3) L (.ref a :: rest) G n0 k0) : Z X pc L (.ref a :: rest) G n0 k0 := by
  obtain ⟨p, l, e, R, s, m, args, below, meth, c, Q, D0, B0, nL⟩ := X
  obtain ⟨hx, hb, hml, hown, hts, hW, -, -, -, -, -, rfl, rfl, rfl, rfl, -⟩ := C
  intro H locs ls hI hS hL
  exact va_castA hx hb hown (hts _ hl) (zP2 (hI.at hg)) 0 rfl (znmB hW.1) hdg (g H locs ls hI hS hL)
theorem z_castI (C : Cx X D B own cc ret hh nm post px rm) {a index : Nat} {x : vp_A} (hg : G a = some (.inl (0, x))) (hl : Cond.classLink own index "[I" ∈ lw_all) (hdg : decode cc pc = .ok (.checkcast index, 3))
    (g : Z X (pc + 3) L (.ref a :: rest) G n0 k0) : Z X pc L (.ref a :: rest) G n0 k0 := by
  obtain ⟨p, l, e, R, s, m, args, below, meth, c, Q, D0, B0, nL⟩ := X
  obtain ⟨hx, hb, hml, hown, hts, hW, -, -, -, -, -, rfl, rfl, rfl, rfl, -⟩ := C
  intro H locs ls hI hS hL
  exact va_castA hx hb hown (hts _ hl) (zP2 (hI.at hg)) 0 rfl (znmI hW.1) hdg (g H locs ls hI hS hL)
/-- an object put to an array of references -/
theorem z_aast (C : Cx X D B own cc ret hh nm post px rm) {a v n t ci N0 : Nat} {f : Nat → Option Nat} {i : Int32} {fs : List Value} {C0 E0 : String} {T0 : u_T} (hg : G a = some (.inl (t, n, .inr (.inr (.inr (.inr f)))))) (ht : zTY[t]? = some (.object E0)) (hv : G v = some (.inr (ci, fs))) (hc : zCL[ci]? = some (C0, T0, N0)) (hw : C0 = E0 ∨ Cond.castable C0 E0 ∈ lw_tbl) (hin : vp_in i n) (hdg : decode cc pc = .ok (.aastore, 1))
    (g : Z X (pc + 1) L rest (zup G a (.inl (t, n, .inr (.inr (.inr (.inr (va_up f i.toNatClampNeg (some v)))))))) n0 k0) : Z X pc L (.ref v :: .int i :: .ref a :: rest) G n0 k0 := by
  obtain ⟨p, l, e, R, s, m, args, below, meth, c, Q, D0, B0, nL⟩ := X
  obtain ⟨hx, hb, hml, hown, hts, hW, -, -, -, -, -, rfl, rfl, rfl, rfl, -⟩ := C
  intro H locs ls hI hS hL
  have hz := hI.2 a _ hg
  have hlt : i.toNatClampNeg < n := Nat.not_le.mp fun q => hin (Or.inr q)
  have h0 : ¬ i < 0 := fun q => hin (Or.inl q)
  obtain ⟨cellV, g1, g3, g2⟩ := zrcv hW.1 (hI.at hv) hc
  obtain ⟨kA, comp, k1, k2, k3, -⟩ := (hW.1.2 t _ (zTYS_at ht)).2
  obtain ⟨kE, hkE, -⟩ := Vm.findClass_spec k3
  obtain ⟨kC, hkC, -⟩ := Vm.findClass_spec g2
  have hasg : s.vm.assignable cellV.cls comp = true := by
    rcases hw with e | hw
    · subst e
      cases k3.symm.trans g2
      exact va_asg _ _
    · exact vb_asgC (hW.2.1 _ hw rfl) _ _ k3 g2
  refine W.aast hx hb hz.2 (fun q h => by cases h) (fun h => by cases h) k1 k2 rfl hkE ⟨h0, by show _ < (arrV _ _ _).slots.size; rw [arrV_size]; exact hlt⟩ g1 (fun q h => by rw [h] at g3; cases g3) hkC hasg rfl rfl hdg fun H1 e1 z oq => ?_
  exact g H1 _ ls (hI.put hg (e1.trans (congrArg some (zst_q _ _ _ _ (some v)))) z oq) (hS.put z oq hz.1) hL
theorem znn {z : Int32} (hz : ¬ z < 0) : z.toInt = (z.toNatClampNeg : Int) := by
  have hz0 : (0 : Int) ≤ z.toInt := by
    have := Int32.not_lt.mp hz
    simpa using Int32.le_iff_toInt_le.mp this
  show z.toInt = ((z.toInt.toNat : Nat) : Int)
  omega
/-- System.arraycopy of whole numbers, from one array to another -/
theorem z_copyi (C : Cx X D B own cc ret hh nm post px rm) {index a0 a t na nb : Nat} {f h : Nat → Int32} {sp dp n : Int32} {ty : FieldType} (hg0 : G a0 = some (.inl (t, na, .inl f))) (hg1 : G a = some (.inl (t, nb, .inl h))) (ht : zTY[t]? = some ty) (hprim : refKind ty = false)
    (hl : Cond.methodLink own index arraycopyName ∈ lw_all) (hn : Cond.native arraycopyName ∈ lw_all) (hst : Cond.static arraycopyName ∈ lw_all) (hi : Cond.initialized "java/lang/System" ∈ lw_all)
    (h1 : ¬ sp < 0) (h2 : ¬ dp < 0) (h3 : ¬ n < 0) (h4 : sp.toNatClampNeg + n.toNatClampNeg ≤ na) (h5 : dp.toNatClampNeg + n.toNatClampNeg ≤ nb) (hfit : ∀ i, i < n.toNatClampNeg → fits ty (.int (f (sp.toNatClampNeg + i))) = true)
    (hframes : 1 ≤ rm.frames) (hlocals : (rest.map fun v => v.category).sum + (nativeFrameWords "java/lang/System" "arraycopy" 5 + 11) ≤ rm.locals) (hdg : decode cc pc = .ok (.invokestatic index, 3))
    (g : Z X (pc + 3) L rest (zup G a (.inl (t, nb, .inl (va_cpy f h sp.toNatClampNeg dp.toNatClampNeg n.toNatClampNeg)))) n0 k0) : Z X pc L (.int n :: .int dp :: .ref a :: .int sp :: .ref a0 :: rest) G n0 k0 := by
  obtain ⟨p, l, e, R, s, m, args, below, meth, c, Q, D0, B0, nL⟩ := X
  obtain ⟨hx, hb, hml, hown, hts, hW, -, -, -, -, -, rfl, rfl, rfl, rfl, -⟩ := C
  intro H locs ls hI hS hL T hT XX
  have hc0 : H[a0]? = some (vp_cell (D0.2.2.1 t) (na, .inl f)) := hI.at hg0
  have hz := hI.2 a _ hg1
  have hc1 : H[a]? = some (vp_cell (D0.2.2.1 t) (nb, .inl h)) := hz.2
  obtain ⟨-, k0, hk0, cm0, hkk0⟩ := (hW.1.2 t _ (zTYS_at ht)).1 na (fun j => .int (f j))
  obtain ⟨vm', X', step⟩ := XX.arraycopy hx hown (hts _ hl) (hts _ hn) (hts _ hst) (hts _ hi) (src := a0) (dst := a) (cs := vp_cell (D0.2.2.1 t) (na, .inl f)) (cd := vp_cell (D0.2.2.1 t) (nb, .inl h)) (srcPos := sp) (destPos := dp) (n := n) (by rw [hT]; exact hc0) (by rw [hT]; exact hc1)
    (fun _ h => by cases h) (fun _ h => by cases h) (fun h => by cases h) (fun h => by cases h) hk0 hk0 hkk0 hkk0 (by simp [hprim]) h1 h2 h3
    (by rw [znn h1, znn h3]; show ¬ _ > ((arrV (D0.2.2.1 t) na (fun j => .int (f j))).slots.size : Int); rw [arrV_size]; omega)
    (by rw [znn h2, znn h3]; show ¬ _ > ((arrV (D0.2.2.1 t) nb (fun j => .int (h j))).slots.size : Int); rw [arrV_size]; omega)
    (fun vm₁ _ i hi9 => by
      have e9 : (vp_cell (D0.2.2.1 t) (na, .inl f)).slots.getD (sp.toNatClampNeg + i) .null = .int (f (sp.toNatClampNeg + i)) := by
        show (arrV (D0.2.2.1 t) na (fun j => .int (f j))).slots.getD _ _ = _
        rw [Array.getD_eq_getD_getElem?, arrV_read _ _ (by omega)]
        rfl
      refine ⟨?_, ?_⟩
      · rw [e9]
        exact hfit i hi9
      · rw [e9]
        exact trivial)
    (g := F0 m pc ls (.int n :: .int dp :: .ref a :: .int sp :: .ref a0 :: rest)) rfl (by rw [hml]; exact hL.2.1) (rest := rest) rfl (by rw [hb]; exact hdg) hframes (by show 2 * 0 + _ + _ ≤ _; omega)
  have e1 : copied (vp_cell (D0.2.2.1 t) (na, .inl f)) (vp_cell (D0.2.2.1 t) (nb, .inl h)) sp dp n = vp_cell (D0.2.2.1 t) (nb, .inl (va_cpy f h sp.toNatClampNeg dp.toNatClampNeg n.toNatClampNeg)) := va_copied (fun z => .int z) _ _ f h h4
  rw [e1] at X' step
  have hlt : a < H.size := (Array.getElem?_eq_some_iff.mp hc1).1
  have hheap : ((T.setVm vm').setCell a (vp_cell (D0.2.2.1 t) (nb, .inl (va_cpy f h sp.toNatClampNeg dp.toNatClampNeg n.toNatClampNeg)))).heap = H.setIfInBounds a (vp_cell (D0.2.2.1 t) (nb, .inl (va_cpy f h sp.toNatClampNeg dp.toNatClampNeg n.toNatClampNeg))) := by rw [← hT]; rfl
  have oq : ∀ q : Nat, q ≠ a → (H.setIfInBounds a (vp_cell (D0.2.2.1 t) (nb, .inl (va_cpy f h sp.toNatClampNeg dp.toNatClampNeg n.toNatClampNeg))))[q]? = H[q]? := fun q hq => by simp [Array.getElem?_setIfInBounds, Ne.symm hq]
  obtain ⟨tt, a1, b1⟩ := g _ _ ls (hI.put hg1 (e := .inl (t, nb, .inl (va_cpy f h sp.toNatClampNeg dp.toNatClampNeg n.toNatClampNeg))) (show (H.setIfInBounds a _)[a]? = some _ by simp [Array.getElem?_setIfInBounds, hlt]) (by simp) oq) ⟨by simp; exact hS.1, fun q g1 g2 => by
      rw [oq q (fun e => g2 (by rw [e]; exact hz.1))]
      exact hS.2.1 q g1 g2, fun q hq => by
      rcases List.mem_append.mp hq with h | h
      · exact hS.2.2 q h
      · obtain ⟨z, -, hz9⟩ := List.mem_map.mp h
        rw [← hz9]
        exact hz.1⟩ hL _ hheap X'
  exact ⟨tt, step tt a1, b1⟩
/-- .. of references: each of an object of class ci (any class), to an array of Objects -/
theorem z_copyq (C : Cx X D B own cc ret hh nm post px rm) {index a0 a t na nb ci N0 : Nat} {f h : Nat → Option Nat} {sp dp n : Int32} {C0 E0 : String} {T0 : u_T} (hg0 : G a0 = some (.inl (t, na, .inr (.inr (.inr (.inr f)))))) (hg1 : G a = some (.inl (t, nb, .inr (.inr (.inr (.inr h)))))) (ht : zTY[t]? = some (.object E0)) (hc : zCL[ci]? = some (C0, T0, N0)) (hw : C0 = E0 ∨ Cond.castable C0 E0 ∈ lw_tbl)
    (hl : Cond.methodLink own index arraycopyName ∈ lw_all) (hn : Cond.native arraycopyName ∈ lw_all) (hst : Cond.static arraycopyName ∈ lw_all) (hi : Cond.initialized "java/lang/System" ∈ lw_all)
    (h1 : ¬ sp < 0) (h2 : ¬ dp < 0) (h3 : ¬ n < 0) (h4 : sp.toNatClampNeg + n.toNatClampNeg ≤ na) (h5 : dp.toNatClampNeg + n.toNatClampNeg ≤ nb) (hel : ∀ i, i < n.toNatClampNeg → ∀ y, f (sp.toNatClampNeg + i) = some y → ∃ fs, G y = some (.inr (ci, fs)))
    (hframes : 1 ≤ rm.frames) (hlocals : (rest.map fun v => v.category).sum + (nativeFrameWords "java/lang/System" "arraycopy" 5 + 11) ≤ rm.locals) (hdg : decode cc pc = .ok (.invokestatic index, 3))
    (g : Z X (pc + 3) L rest (zup G a (.inl (t, nb, .inr (.inr (.inr (.inr (va_cpy f h sp.toNatClampNeg dp.toNatClampNeg n.toNatClampNeg))))))) n0 k0) : Z X pc L (.int n :: .int dp :: .ref a :: .int sp :: .ref a0 :: rest) G n0 k0 := by
  obtain ⟨p, l, e, R, s, m, args, below, meth, c, Q, D0, B0, nL⟩ := X
  obtain ⟨hx, hb, hml, hown, hts, hW, -, -, -, -, -, rfl, rfl, rfl, rfl, -⟩ := C
  intro H locs ls hI hS hL T hT XX
  have hc0 : H[a0]? = some (vp_cell (D0.2.2.1 t) (na, .inr (.inr (.inr (.inr f))))) := hI.at hg0
  have hz := hI.2 a _ hg1
  have hc1 : H[a]? = some (vp_cell (D0.2.2.1 t) (nb, .inr (.inr (.inr (.inr h))))) := hz.2
  obtain ⟨-, k0, hk0, cm0, hkk0⟩ := (hW.1.2 t _ (zTYS_at ht)).1 na (fun j => va_rf (f j))
  obtain ⟨vm', X', step⟩ := XX.arraycopy hx hown (hts _ hl) (hts _ hn) (hts _ hst) (hts _ hi) (src := a0) (dst := a) (cs := vp_cell (D0.2.2.1 t) (na, .inr (.inr (.inr (.inr f))))) (cd := vp_cell (D0.2.2.1 t) (nb, .inr (.inr (.inr (.inr h))))) (srcPos := sp) (destPos := dp) (n := n) (by rw [hT]; exact hc0) (by rw [hT]; exact hc1)
    (fun _ h => by cases h) (fun _ h => by cases h) (fun h => by cases h) (fun h => by cases h) hk0 hk0 hkk0 hkk0 rfl h1 h2 h3
    (by rw [znn h1, znn h3]; show ¬ _ > ((arrV (D0.2.2.1 t) na (fun j => va_rf (f j))).slots.size : Int); rw [arrV_size]; omega)
    (by rw [znn h2, znn h3]; show ¬ _ > ((arrV (D0.2.2.1 t) nb (fun j => va_rf (h j))).slots.size : Int); rw [arrV_size]; omega)
    (fun vm₁ hal i hi9 => by
      have e9 : (vp_cell (D0.2.2.1 t) (na, .inr (.inr (.inr (.inr f))))).slots.getD (sp.toNatClampNeg + i) .null = va_rf (f (sp.toNatClampNeg + i)) := by
        show (arrV (D0.2.2.1 t) na (fun j => va_rf (f j))).slots.getD _ _ = _
        rw [Array.getD_eq_getD_getElem?, arrV_read _ _ (by omega)]
        rfl
      rw [e9]
      cases hy : f (sp.toNatClampNeg + i) with
      | none => exact ⟨rfl, trivial⟩
      | some y =>
        obtain ⟨fs, hgy⟩ := hel i hi9 y hy
        obtain ⟨cellV, g1, g2, g3⟩ := zrcv hW.1 (hI.at hgy) hc
        obtain ⟨kA, comp, r1, r2, r3, -⟩ := (hW.1.2 t _ (zTYS_at ht)).2
        cases hk0.symm.trans r1
        cases hkk0.symm.trans r2
        obtain ⟨kC, hkC, -⟩ := Vm.findClass_spec g3
        obtain ⟨kE, hkE, -⟩ := Vm.findClass_spec r3
        obtain ⟨kC', hkC', -⟩ := hal.2.2 _ _ hkC
        obtain ⟨kE', hkE', -⟩ := hal.2.2 _ _ hkE
        have hasg : s.vm.assignable cellV.cls cm0 = true := by
          rcases hw with e | hw
          · subst e
            cases r3.symm.trans g3
            exact va_asg _ _
          · exact vb_asgC (hW.2.1 _ hw rfl) _ _ r3 g3
        refine ⟨rfl, cellV, (show T.heap[y]? = some cellV by rw [hT]; exact g1), (fun q h => by rw [h] at g2; cases g2), ⟨kC', hkC'⟩, ?_, ?_⟩
        · exact ⟨kE', hkE'⟩
        · show vm₁.assignable _ _ = true
          rw [hal.assignable]
          exact hasg)
    (g := F0 m pc ls (.int n :: .int dp :: .ref a :: .int sp :: .ref a0 :: rest)) rfl (by rw [hml]; exact hL.2.1) (rest := rest) rfl (by rw [hb]; exact hdg) hframes (by show 2 * 0 + _ + _ ≤ _; omega)
  have e1 : copied (vp_cell (D0.2.2.1 t) (na, .inr (.inr (.inr (.inr f))))) (vp_cell (D0.2.2.1 t) (nb, .inr (.inr (.inr (.inr h))))) sp dp n = vp_cell (D0.2.2.1 t) (nb, .inr (.inr (.inr (.inr (va_cpy f h sp.toNatClampNeg dp.toNatClampNeg n.toNatClampNeg))))) := by
    rw [vp_cell_q, vp_cell_q, vp_cell_q]
    exact va_copied (fun z => va_rf z) _ _ f h h4
  rw [e1] at X' step
  have hlt : a < H.size := (Array.getElem?_eq_some_iff.mp hc1).1
  have hheap : ((T.setVm vm').setCell a (vp_cell (D0.2.2.1 t) (nb, .inr (.inr (.inr (.inr (va_cpy f h sp.toNatClampNeg dp.toNatClampNeg n.toNatClampNeg))))))).heap = H.setIfInBounds a (vp_cell (D0.2.2.1 t) (nb, .inr (.inr (.inr (.inr (va_cpy f h sp.toNatClampNeg dp.toNatClampNeg n.toNatClampNeg)))))) := by rw [← hT]; rfl
  have oq : ∀ q : Nat, q ≠ a → (H.setIfInBounds a (vp_cell (D0.2.2.1 t) (nb, .inr (.inr (.inr (.inr (va_cpy f h sp.toNatClampNeg dp.toNatClampNeg n.toNatClampNeg)))))))[q]? = H[q]? := fun q hq => by simp [Array.getElem?_setIfInBounds, Ne.symm hq]
  obtain ⟨tt, a1, b1⟩ := g _ _ ls (hI.put hg1 (e := .inl (t, nb, .inr (.inr (.inr (.inr (va_cpy f h sp.toNatClampNeg dp.toNatClampNeg n.toNatClampNeg)))))) (show (H.setIfInBounds a _)[a]? = some _ by simp [Array.getElem?_setIfInBounds, hlt]) (by simp) oq) ⟨by simp; exact hS.1, fun q g1 g2 => by
      rw [oq q (fun e => g2 (by rw [e]; exact hz.1))]
      exact hS.2.1 q g1 g2, fun q hq => by
      rcases List.mem_append.mp hq with h | h
      · exact hS.2.2 q h
      · obtain ⟨z, -, hz9⟩ := List.mem_map.mp h
        rw [← hz9]
        exact hz.1⟩ hL _ hheap X'
  exact ⟨tt, step tt a1, b1⟩
/-- an array's clone -/
theorem z_clone (C : Cx X D B own cc ret hh nm post px rm) {index a t na : Nat} {f : Nat → Int32} {ty : FieldType} {ad : String} (hg : G a = some (.inl (t, na, .inl f))) (ht : zTY[t]? = some ty) (hnm : ∀ s : State, va_K (D.1, D.2.1) zCL (zTYS D) s → s.vm.findClass ad = some (D.2.2.1 t)) (hfit : ∀ i, fits ty (.int (f i)) = true)
    (hl : Cond.methodLink own index ⟨ad, "clone", "()Ljava/lang/Object;"⟩ ∈ lw_all) (hsm : Cond.sameMethod ad "java/lang/Object" "clone" "()Ljava/lang/Object;" ∈ lw_all) (hnat : Cond.native ⟨"java/lang/Object", "clone", "()Ljava/lang/Object;"⟩ ∈ lw_all) (hin : Cond.instanceMethod ⟨"java/lang/Object", "clone", "()Ljava/lang/Object;"⟩ ∈ lw_all)
    (hsel : Cond.selects ad ⟨ad, "clone", "()Ljava/lang/Object;"⟩ ⟨"java/lang/Object", "clone", "()Ljava/lang/Object;"⟩ ∈ lw_all) (hcl : Cond.castable ad "java/lang/Cloneable" ∈ lw_tbl)
    (hframes : 1 ≤ rm.frames) (hlocals : (rest.map fun v => v.category).sum + 14 ≤ rm.locals) (hcells : n0 + 1 ≤ rm.cells) (hslots : k0 + na ≤ rm.slots) (hdg : decode cc pc = .ok (.invokevirtual index, 3))
    (g : ∀ q : Nat, G q = none → B ≤ q → Z X (pc + 3) L (.ref q :: rest) (zup G q (.inl (t, na, .inl f))) (n0 + 1) (k0 + na)) : Z X pc L (.ref a :: rest) G n0 k0 := by
  obtain ⟨p, l, e, R, s, m, args, below, meth, c, Q, D0, B0, nL⟩ := X
  obtain ⟨hx, hb, hml, hown, hts, hW, -, -, -, -, -, rfl, rfl, rfl, rfl, -⟩ := C
  intro H locs ls hI hS hL T hT XX
  have hnm := hnm s hW.1
  have hc0 : H[a]? = some (vp_cell (D0.2.2.1 t) (na, .inl f)) := hI.at hg
  have hsz : (vp_cell (D0.2.2.1 t) (na, .inl f)).slots.size = na := arrV_size _ _ _
  obtain ⟨c0, t0', f1, f2, f3⟩ := Cond.castable_spec (va_Nw.use (A := args) rfl (hW.2.1 _ hcl rfl))
  cases hnm.symm.trans f1
  obtain ⟨-, kA, hkA, comp, hkind⟩ := State.isArrayOf_alike XX.warmed.alike ((hW.1.2 t _ (zTYS_at ht)).1 0 (fun _ => .null))
  obtain ⟨-, kS, hkS, compS, hkindS⟩ := (hW.1.2 t _ (zTYS_at ht)).1 0 (fun _ => .null)
  obtain ⟨vm', X', st⟩ := XX.cloneArray hx hown (hts _ hl) (hts _ hsm) (hts _ hnat) (hts _ hin) (hts _ hsel) (a := a) (cell := vp_cell (D0.2.2.1 t) (na, .inl f)) (by rw [hT]; exact hc0) (fun k h => by cases h) (fun h => by cases h) hnm f2 f3
    (fun i v hv => by
      have hk' : T.vm.classes[D0.2.2.1 t]? = some kA := hkA
      have hlt : i < na := by
        have := (Array.getElem?_eq_some_iff.mp hv).1
        rw [hsz] at this
        exact this
      have hv2 : v = .int (f i) := by
        have e9 : (vp_cell (D0.2.2.1 t) (na, .inl f)).slots[i]? = some (.int (f i)) := arrV_read _ _ hlt
        exact Option.some.inj (hv.symm.trans e9)
      rw [hv2]
      show T.fitsSlot (D0.2.2.1 t) .none i (.int (f i)) = true
      simpa [State.fitsSlot, State.slotType?, hk', hkind] using hfit i)
    (g := F0 m pc ls (.ref a :: rest)) rfl (by rw [hml]; exact hL.2.1) rfl (by rw [hb]; exact hdg) hframes (by show 2 * 0 + _ + 14 ≤ _; omega) hcells (by rw [hsz]; exact hslots) (hloader := Vm.clonesLoader_of_array hkS hkindS)
  rw [hsz] at X'
  generalize hH1 : H.push (vp_cell (D0.2.2.1 t) (na, .inl f)) = H1
  have z1 : H1.size = H.size + 1 := by rw [← hH1, Array.size_push]
  have e1 : H1[H.size]? = some (vp_cell (D0.2.2.1 t) (na, .inl f)) := by rw [← hH1, Array.getElem?_push_size]
  have o1 : ∀ q : Nat, q < H.size → H1[q]? = H[q]? := fun q hq => by rw [← hH1, Array.getElem?_push, if_neg (Nat.ne_of_lt hq)]
  obtain ⟨hn1, hI1⟩ := hI.push (e := .inl (t, na, .inl f)) e1 z1 o1
  obtain ⟨tt, b1, b2⟩ := g H.size hn1 hI.1 H1 locs ls hI1 ⟨Nat.le_trans hS.1 (by omega), fun x g1 g2 => (o1 x (Nat.lt_of_lt_of_le g1 hS.1)).trans (hS.2.1 x g1 g2), hS.2.2⟩ hL _ (by rw [← hH1, ← hT]; rfl) X'
  exact ⟨tt, st _ (by rw [hT]; exact b1), b2⟩
/-! class objects -/
theorem z_ldcM (C : Cx X D B own cc ret hh nm post px rm) {index : Nat} (hl : Cond.classLink own index "[Ljava/lang/Object;" ∈ lw_all) (hdg : decode cc pc = .ok (.ldc index, 2)) (g : Z X (pc + 2) L (.ref (D.2.2.2 60) :: rest) G n0 k0) : Z X pc L rest G n0 k0 := by
  obtain ⟨p, l, e, R, s, m, args, below, meth, c, Q, D0, B0, nL⟩ := X
  obtain ⟨hx, hb, hml, hown, hts, hW, -, -, -, -, -, rfl, rfl, rfl, rfl, -⟩ := C
  intro H locs ls hI hS hL
  exact va_ldcM hx hb hown (hts _ hl) hW.2.2.2.2.2.2.2.2.2.2.2.2.2.2.1 hdg (g H locs ls hI hS hL)
theorem znmO {s : State} (hK : va_K (D.1, D.2.1) zCL (zTYS D) s) : s.vm.findClass "[Ljava/lang/Object;" = some (D.2.2.1 5) := va_nmO (hK.2 _ _ (zTYS_at (D := D) (t := 5) rfl)).2 (by decide +kernel)
theorem z_getC (C : Cx X D B own cc ret hh nm post px rm) {index a : Nat} {x : vp_A} (hg : G a = some (.inl (5, x))) (hl : Cond.methodLink own index ⟨"java/lang/Object", "getClass", "()Ljava/lang/Class;"⟩ ∈ lw_all) (hd : Cond.declares ⟨"java/lang/Object", "getClass", "()Ljava/lang/Class;"⟩ ∈ lw_tbl)
    (hsel : Cond.selects "[Ljava/lang/Object;" ⟨"java/lang/Object", "getClass", "()Ljava/lang/Class;"⟩ ⟨"java/lang/Object", "getClass", "()Ljava/lang/Class;"⟩ ∈ lw_all) (hin : Cond.instanceMethod ⟨"java/lang/Object", "getClass", "()Ljava/lang/Class;"⟩ ∈ lw_all) (hnat : Cond.native ⟨"java/lang/Object", "getClass", "()Ljava/lang/Class;"⟩ ∈ lw_all)
    (hframes : 1 ≤ rm.frames) (hlocals : (rest.map fun v => v.category).sum + 14 ≤ rm.locals) (hdg : decode cc pc = .ok (.invokevirtual index, 3)) (g : Z X (pc + 3) L (.ref (D.2.2.2 60) :: rest) G n0 k0) : Z X pc L (.ref a :: rest) G n0 k0 := by
  obtain ⟨p, l, e, R, s, m, args, below, meth, c, Q, D0, B0, nL⟩ := X
  obtain ⟨hx, hb, hml, hown, hts, hW, -, -, -, -, -, rfl, rfl, rfl, rfl, -⟩ := C
  intro H locs ls hI hS hL
  have hvm0 : (vp_cell (D0.2.2.1 5) x).vm = .none := by obtain ⟨n, f | f | f | f | f⟩ := x <;> rfl
  have hcl0 : (vp_cell (D0.2.2.1 5) x).cls = D0.2.2.1 5 := by obtain ⟨n, f | f | f | f | f⟩ := x <;> rfl
  exact va_getC hx hb (hml.trans hL.2.1.symm) hown (hts _ hl) (va_Nw.use rfl (hW.2.1 _ hd rfl)) (hts _ hsel) (hts _ hin) (hts _ hnat) hW.2.2.2.2.2.2.2.2.2.2.2.2.2.2.1 ⟨_, hI.at hg, by rw [hvm0]; rfl, by rw [hcl0]; exact znmO hW.1⟩ hframes hlocals hdg (g H locs ls hI hS hL)
end ZR6
