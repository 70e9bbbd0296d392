/-! rows for constants: Strings, their bytes, statics -/
section ZR5
variable {X : zX} {D : zG} {B : Nat} {own : String} {cc : ByteArray} {ret : Option FieldType} {hh : List (Nat × Nat × Nat × Nat)} {nm : String} {post : Option Value → zH → Prop} {px : String → Nat → zH → Prop} {rm : Room} {pc : Nat} {L : zLs} {rest : List Value} {G : zH} {n0 k0 : Nat}
theorem z_ldcS (C : Cx X D B own cc ret hh nm post px rm) {index i : Nat} {tx : String} (hq : (own, index, tx, i) ∈ zSR) (hdg : decode cc pc = .ok (.ldc index, 2)) (g : Z X (pc + 2) L (.ref (D.2.2.2 i) :: rest) G n0 k0) : Z X pc L rest G n0 k0 := by
  obtain ⟨p, l, e, R, s, m, args, below, meth, c, Q, D0, B0, nL⟩ := X
  obtain ⟨hx, hb, hml, hown, hts, hW, -, -, -, -, -, rfl, rfl, rfl, rfl, -⟩ := C
  intro H locs ls hI hS hL
  exact va_ldcS hx hb hown (hW.2.2.2.2.2.2.1 _ hq) hdg (g H locs ls hI hS hL)
theorem z_ldcSw (C : Cx X D B own cc ret hh nm post px rm) {index i : Nat} {tx : String} (hq : (own, index, tx, i) ∈ zSR) (hdg : decode cc pc = .ok (.ldc_w index, 3)) (g : Z X (pc + 3) L (.ref (D.2.2.2 i) :: rest) G n0 k0) : Z X pc L rest G n0 k0 := by
  obtain ⟨p, l, e, R, s, m, args, below, meth, c, Q, D0, B0, nL⟩ := X
  obtain ⟨hx, hb, hml, hown, hts, hW, -, -, -, -, -, rfl, rfl, rfl, rfl, -⟩ := C
  intro H locs ls hI hS hL T hT XX
  have hZ := hW.2.2.2.2.2.2.1 _ hq
  obtain ⟨t, a1, b1⟩ := g H locs ls hI hS hL T hT XX
  exact ⟨t, XX.ldcStringW hx hown (text := tx) (a := D0.2.2.2 i) hZ.1 hZ.2 (g := F0 m pc ls rest) rfl (by rw [hb]; exact hdg) t a1, b1⟩
theorem z_kval (C : Cx X D B own cc ret hh nm post px rm) {index i : Nat} (hi : i < 10) (hq : Cond.fieldLink own index "java/lang/String" "value" "[B" ∈ lw_all) (hdg : decode cc pc = .ok (.getfield index, 3)) (g : Z X (pc + 3) L (.ref (D.2.2.2 (20 + i)) :: rest) G n0 k0) : Z X pc L (.ref (D.2.2.2 i) :: rest) G n0 k0 := by
  obtain ⟨p, l, e, R, s, m, args, below, meth, c, Q, D0, B0, nL⟩ := X
  obtain ⟨hx, hb, hml, hown, hts, hW, -, -, -, -, -, rfl, rfl, rfl, rfl, -⟩ := C
  intro H locs ls hI hS hL
  exact vk_getf hx hb (hW.2.2.2.2.2.2.2.1.1 i hi).2.2.1 hS hown (hts _ hq) (fun x hx => hx) hdg (g H locs ls hI hS hL)
theorem z_kcod (C : Cx X D B own cc ret hh nm post px rm) {index i : Nat} (hi : i < 10) (hq : Cond.fieldLink own index "java/lang/String" "coder" "B" ∈ lw_all) (hdg : decode cc pc = .ok (.getfield index, 3)) (g : Z X (pc + 3) L (.int 0 :: rest) G n0 k0) : Z X pc L (.ref (D.2.2.2 i) :: rest) G n0 k0 := by
  obtain ⟨p, l, e, R, s, m, args, below, meth, c, Q, D0, B0, nL⟩ := X
  obtain ⟨hx, hb, hml, hown, hts, hW, -, -, -, -, -, rfl, rfl, rfl, rfl, -⟩ := C
  intro H locs ls hI hS hL
  exact vk_getf hx hb (hW.2.2.2.2.2.2.2.1.1 i hi).2.1 hS hown (hts _ hq) (fun x hx => hx) hdg (g H locs ls hI hS hL)
theorem z_klen (C : Cx X D B own cc ret hh nm post px rm) {i : Nat} {v : Int32} (hi : i < 10) (hv : Int32.ofNat (zSlen.getD i 0) = v) (hdg : decode cc pc = .ok (.arraylength, 1)) (g : Z X (pc + 1) L (.int v :: rest) G n0 k0) : Z X pc L (.ref (D.2.2.2 (20 + i)) :: rest) G n0 k0 := by
  obtain ⟨p, l, e, R, s, m, args, below, meth, c, Q, D0, B0, nL⟩ := X
  obtain ⟨hx, hb, hml, hown, hts, hW, -, -, -, -, -, rfl, rfl, rfl, rfl, -⟩ := C
  intro H locs ls hI hS hL
  exact va_tlen hx hb (hW.2.2.2.2.2.2.2.1.1 i hi).2.2.2 hS hv hdg (g H locs ls hI hS hL)
theorem z_kbyt (C : Cx X D B own cc ret hh nm post px rm) {i : Nat} {j : Int32} (hi : i < 10) (hin : vp_in j (zSlen.getD i 0)) (hdg : decode cc pc = .ok (.baload, 1)) (g : Z X (pc + 1) L (.int ((zSbyt.getD i []).getD j.toNatClampNeg 0) :: rest) G n0 k0) : Z X pc L (.int j :: .ref (D.2.2.2 (20 + i)) :: rest) G n0 k0 := by
  obtain ⟨p, l, e, R, s, m, args, below, meth, c, Q, D0, B0, nL⟩ := X
  obtain ⟨hx, hb, hml, hown, hts, hW, -, -, -, -, -, rfl, rfl, rfl, rfl, -⟩ := C
  intro H locs ls hI hS hL
  exact va_tb hx hb (hW.2.2.2.2.2.2.2.1.1 i hi).2.2.2 hS hin rfl hdg (g H locs ls hI hS hL)
theorem z_khash (C : Cx X D B own cc ret hh nm post px rm) {index i : Nat} (hi : i < 10) (hq : Cond.fieldLink own index "java/lang/String" "hash" "I" ∈ lw_all) (hdg : decode cc pc = .ok (.getfield index, 3)) (g : Z X (pc + 3) L (.int (zShash.getD i 0) :: rest) G n0 k0) : Z X pc L (.ref (D.2.2.2 i) :: rest) G n0 k0 := by
  obtain ⟨p, l, e, R, s, m, args, below, meth, c, Q, D0, B0, nL⟩ := X
  obtain ⟨hx, hb, hml, hown, hts, hW, -, -, -, -, -, rfl, rfl, rfl, rfl, -⟩ := C
  intro H locs ls hI hS hL
  exact va_getX (i := i) (v := fun i => .int (zShash.getD i 0)) hx hb hW.2.2.2.2.2.2.2.2.1 hi hS hown (hts _ hq) (fun x hx => hx) hdg (g H locs ls hI hS hL)
theorem z_khz (C : Cx X D B own cc ret hh nm post px rm) {index i : Nat} (hi : i < 10) (hq : Cond.fieldLink own index "java/lang/String" "hashIsZero" "Z" ∈ lw_all) (hdg : decode cc pc = .ok (.getfield index, 3)) (g : Z X (pc + 3) L (.int (if i = 0 then 1 else 0) :: rest) G n0 k0) : Z X pc L (.ref (D.2.2.2 i) :: rest) G n0 k0 := by
  obtain ⟨p, l, e, R, s, m, args, below, meth, c, Q, D0, B0, nL⟩ := X
  obtain ⟨hx, hb, hml, hown, hts, hW, -, -, -, -, -, rfl, rfl, rfl, rfl, -⟩ := C
  intro H locs ls hI hS hL
  exact va_getX (i := i) (v := fun i => .int (if i = 0 then 1 else 0)) hx hb hW.2.2.2.2.2.2.2.2.2.1 hi hS hown (hts _ hq) (fun x hx => hx) hdg (g H locs ls hI hS hL)
theorem z_gets (C : Cx X D B own cc ret hh nm post px rm) {index k : Nat} {cls n d : String} (hz : (cls, n, d, k) ∈ zST) (hq : Cond.fieldLink own index cls n d ∈ lw_all) (hdg : decode cc pc = .ok (.getstatic index, 3)) (g : Z X (pc + 3) L (zSv D k :: rest) G n0 k0) : Z X pc L rest G n0 k0 := by
  obtain ⟨p, l, e, R, s, m, args, below, meth, c, Q, D0, B0, nL⟩ := X
  obtain ⟨hx, hb, hml, hown, hts, hW, -, -, -, -, -, rfl, rfl, rfl, rfl, -⟩ := C
  intro H locs ls hI hS hL
  exact va_gets hx hb (hW.2.2.2.2.2.2.2.2.2.2.1 _ hz) hS hown (hts _ hq) (fun x hx => hx) hdg (g H locs ls hI hS hL)
theorem z_getsR (C : Cx X D B own cc ret hh nm post px rm) {index k : Nat} {cls n d : String} (hz : (cls, n, d, k) ∈ zSR2) (hq : Cond.fieldLink own index cls n d ∈ lw_all) (hdg : decode cc pc = .ok (.getstatic index, 3)) (g : Z X (pc + 3) L (.ref (D.2.2.2 k) :: rest) G n0 k0) : Z X pc L rest G n0 k0 := by
  obtain ⟨p, l, e, R, s, m, args, below, meth, c, Q, D0, B0, nL⟩ := X
  obtain ⟨hx, hb, hml, hown, hts, hW, -, -, -, -, -, rfl, rfl, rfl, rfl, -⟩ := C
  intro H locs ls hI hS hL
  exact va_gets hx hb (hW.2.2.2.2.2.2.2.2.2.2.2.1 _ hz) hS hown (hts _ hq) (fun x hx => hx) hdg (g H locs ls hI hS hL)
/-- a call of a constant String's method -/
theorem z_callK (C : Cx X D B own cc ret hh nm post px rm) {y : MethodName} {bytes : ByteArray} {maxL index np i : Nat} {ret' : Option FieldType} {rm' : Room} {As : List Value} {post' : Option Value → zH → Prop} {px' : String → Nat → zH → Prop} {st0 : List Value} (hi : i < 10) (hy : y.cls = "java/lang/String") (hM : Ct D B y (ws_ y bytes maxL ret') rm' (.ref (D.2.2.2 i) :: As) G post' px')
    (h1 : Cond.methodLink own index y ∈ lw_all) (h2 : Cond.instanceMethod y ∈ lw_all) (h5 : Cond.selects y.cls y y ∈ lw_all) (h3 : Cond.initialized y.cls ∈ lw_all) (h4 : Cond.code y bytes maxL ret' ∈ lw_all) (hd : znp y np) (hR : zroom rm rm' maxL)
    (hst : st0 = As.reverse ++ .ref (D.2.2.2 i) :: rest) (hn : As.length = np) (hw : (rest.map fun v => v.category).sum ≤ 8) (hf : n0 + rm'.cells ≤ rm.cells ∧ k0 + rm'.slots ≤ rm.slots) (hdg : decode cc pc = .ok (.invokevirtual index, 3))
    (kx : ∀ (E : String) (q : Nat) (G' : zH), px' E q G' → ZX X pc L rest E q G' (n0 + rm'.cells) (k0 + rm'.slots))
    (kk : ∀ (v : Option Value) (G' : zH), post' v G' → Z X (pc + 3) L (v.toList ++ rest) G' (n0 + rm'.cells) (k0 + rm'.slots)) : Z X pc L st0 G n0 k0 := by
  obtain ⟨p, l, e, R, s, m, args, below, meth, c, Q, D0, B0, nL⟩ := X
  obtain ⟨hx, hb, hml, hown, hts, hW, -, -, -, -, hsl, rfl, rfl, rfl, rfl, -⟩ := C
  intro H locs ls hI hS hL
  exact zfin (vx_runV (C := y.cls) (As := As) (rest := rest) ⟨hx, hb, hml, hown, hts⟩ (hM l hsl) (cwV np hts (lw_V h1 h2 h5 h3 h4) rfl rfl rfl ⟨rfl, hd⟩ hR) ⟨zPc_blind, by rw [hy]; exact vk_recv hW.2.2.2.2.2.2.2.1 hi hS, zPre hW hS hI⟩ rfl hn hL.2.1 hst (lv_room hw) hdg hf) hS hL kk kx
theorem z_callKe {w : Option Value} {G1 : zH} (C : Cx X D B own cc ret hh nm post px rm) {y : MethodName} {bytes : ByteArray} {maxL index np i : Nat} {ret' : Option FieldType} {rm' : Room} {As : List Value} {st0 : List Value} (hi : i < 10) (hy : y.cls = "java/lang/String") (hM : Ct D B y (ws_ y bytes maxL ret') rm' (.ref (D.2.2.2 i) :: As) G (zpe w G1) zno)
    (h1 : Cond.methodLink own index y ∈ lw_all) (h2 : Cond.instanceMethod y ∈ lw_all) (h5 : Cond.selects y.cls y y ∈ lw_all) (h3 : Cond.initialized y.cls ∈ lw_all) (h4 : Cond.code y bytes maxL ret' ∈ lw_all) (hd : znp y np) (hR : zroom rm rm' maxL)
    (hst : st0 = As.reverse ++ .ref (D.2.2.2 i) :: rest) (hn : As.length = np) (hw : (rest.map fun v => v.category).sum ≤ 8) (hf : n0 + rm'.cells ≤ rm.cells ∧ k0 + rm'.slots ≤ rm.slots) (hdg : decode cc pc = .ok (.invokevirtual index, 3))
    (g : Z X (pc + 3) L (w.toList ++ rest) G1 (n0 + rm'.cells) (k0 + rm'.slots)) : Z X pc L st0 G n0 k0 :=
  z_callK C hi hy hM h1 h2 h5 h3 h4 hd hR hst hn hw hf hdg (fun _ _ _ h => False.elim h) (fun v G' h => by obtain ⟨rfl, rfl⟩ := h; exact g)
theorem zSv_rf (D : zG) {k : Nat} (h : k ≠ 0) : zSv D k = .null ∨ ∃ a, zSv D k = .ref a := by
  cases k with
  | zero => exact absurd rfl h
  | succ k =>
    by_cases h9 : D.2.2.2 (100 + (k + 1)) = 0
    · exact Or.inl (if_pos h9)
    · exact Or.inr ⟨_, if_neg h9⟩
end ZR5
