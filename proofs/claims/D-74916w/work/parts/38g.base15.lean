/-! the enum's values -/
section ZEN
variable {X : zX} {D : zG} {B : Nat} {own : String} {cc : ByteArray} {ret : Option FieldType} {hh : List (Nat × Nat × Nat × Nat)} {nm : String} {post : Option Value → zH → Prop} {px : String → Nat → zH → Prop} {rm : Room} {pc : Nat} {L : zLs} {rest : List Value} {G : zH} {n0 k0 : Nat}
def zmeE (D : zG) : zE := .inl (7, 5, .inr (.inr (.inr (.inr fun j => some (D.2.2.2 (40 + j))))))
theorem znmQ {s : State} (hK : va_K (D.1, D.2.1) zCL (zTYS D) s) : s.vm.findClass "[LTrackArray$Measure;" = some (D.2.2.1 7) := va_nmO (hK.2 _ _ (zTYS_at (D := D) (t := 7) rfl)).2 (by decide +kernel)
theorem z_cloneM (C : Cx X D B own cc ret hh nm post px rm) {index : Nat}
    (hl : Cond.methodLink own index ⟨"[LTrackArray$Measure;", "clone", "()Ljava/lang/Object;"⟩ ∈ lw_all) (hsm : Cond.sameMethod "[LTrackArray$Measure;" "java/lang/Object" "clone" "()Ljava/lang/Object;" ∈ lw_all) (hnat : Cond.native ⟨"java/lang/Object", "clone", "()Ljava/lang/Object;"⟩ ∈ lw_all) (hin : Cond.instanceMethod ⟨"java/lang/Object", "clone", "()Ljava/lang/Object;"⟩ ∈ lw_all)
    (hsel : Cond.selects "[LTrackArray$Measure;" ⟨"[LTrackArray$Measure;", "clone", "()Ljava/lang/Object;"⟩ ⟨"java/lang/Object", "clone", "()Ljava/lang/Object;"⟩ ∈ lw_all) (hcl : Cond.castable "[LTrackArray$Measure;" "java/lang/Cloneable" ∈ lw_tbl)
    (hframes : 1 ≤ rm.frames) (hlocals : (rest.map fun v => v.category).sum + 14 ≤ rm.locals) (hcells : n0 + 1 ≤ rm.cells) (hslots : k0 + 5 ≤ rm.slots) (hdg : decode cc pc = .ok (.invokevirtual index, 3))
    (g : ∀ q : Nat, G q = none → B ≤ q → Z X (pc + 3) L (.ref q :: rest) (zup G q (zmeE D)) (n0 + 1) (k0 + 5)) : Z X pc L (.ref (D.2.2.2 50) :: rest) G n0 k0 := by
  obtain ⟨p, l, e, R, s, m, args, below, meth, c, Q, D0, B0, nL⟩ := X
  obtain ⟨hx, hb, hml, hown, hts, hW, -, -, -, -, -, rfl, rfl, rfl, rfl, -⟩ := C
  intro H locs ls hI hS hL T hT XX
  have hnm := znmQ hW.1
  obtain ⟨-, -, -, -, -, -, -, -, -, -, -, -, -, -, -, -, -, -, cell, w1, w2, w3, w4, w5, w6⟩ := id hW
  have hc0 : H[D0.2.2.2 50]? = some cell := by rw [hS.2.1 _ (Array.getElem?_eq_some_iff.mp w1).1 w6]; exact w1
  have hsz : cell.slots.size = 5 := by rw [w3]; exact arrV_size _ _ _
  obtain ⟨c0, t0', f1, f2, f3⟩ := Cond.castable_spec (va_Nw.use (A := args) rfl (hW.2.1 _ hcl rfl))
  cases hnm.symm.trans f1
  obtain ⟨-, kA, hkA, comp, hkind⟩ := State.isArrayOf_alike XX.warmed.alike ((hW.1.2 7 _ (zTYS_at (t := 7) rfl)).1 0 (fun _ => .null))
  obtain ⟨-, kS, hkS, compS, hkindS⟩ := (hW.1.2 7 _ (zTYS_at (D := D0) (t := 7) rfl)).1 0 (fun _ => .null)
  obtain ⟨vm', X', st⟩ := XX.cloneArray hx hown (hts _ hl) (hts _ hsm) (hts _ hnat) (hts _ hin) (hts _ hsel) (a := D0.2.2.2 50) (cell := cell) (by rw [hT]; exact hc0) w5 w4 (by rw [w2]; exact hnm) f2 (by rw [w2]; exact f3)
    (fun i v hv => by
      have hk' : T.vm.classes[D0.2.2.1 7]? = some kA := hkA
      have hlt : i < 5 := by
        have := (Array.getElem?_eq_some_iff.mp hv).1
        rw [hsz] at this
        exact this
      have hv2 : v = .ref (D0.2.2.2 (40 + i)) := by
        rw [w3] at hv
        have e9 : (arrV (D0.2.2.1 7) 5 (fun j => .ref (D0.2.2.2 (40 + j)))).slots[i]? = some (.ref (D0.2.2.2 (40 + i))) := arrV_read _ _ hlt
        exact Option.some.inj (hv.symm.trans e9)
      rw [hv2, w2]
      simp [State.fitsSlot, State.slotType?, hk', hkind, fits])
    (g := F0 m pc ls (.ref (D0.2.2.2 50) :: rest)) rfl (by rw [hml]; exact hL.2.1) rfl (by rw [hb]; exact hdg) hframes (by show 2 * 0 + _ + 14 ≤ _; omega) hcells (by rw [hsz]; exact hslots) (hloader := by rw [w2]; exact Vm.clonesLoader_of_array hkS hkindS)
  rw [hsz] at X'
  have hcc : ({ cls := cell.cls, slots := cell.slots } : Cell) = vp_cell (D0.2.2.1 7) (5, .inr (.inr (.inr (.inr fun j => some (D0.2.2.2 (40 + j)))))) := by
    rw [w2, w3]
    rfl
  rw [hcc] at X' st
  generalize hH1 : H.push (vp_cell (D0.2.2.1 7) (5, .inr (.inr (.inr (.inr fun j => some (D0.2.2.2 (40 + j))))))) = H1
  have z1 : H1.size = H.size + 1 := by rw [← hH1, Array.size_push]
  have e1 : H1[H.size]? = some (vp_cell (D0.2.2.1 7) (5, .inr (.inr (.inr (.inr fun j => some (D0.2.2.2 (40 + j))))))) := by rw [← hH1, Array.getElem?_push_size]
  have o1 : ∀ q : Nat, q < H.size → H1[q]? = H[q]? := fun q hq => by rw [← hH1, Array.getElem?_push, if_neg (Nat.ne_of_lt hq)]
  obtain ⟨hn1, hI1⟩ := hI.push (e := zmeE D0) e1 z1 o1
  obtain ⟨tt, b1, b2⟩ := g H.size hn1 hI.1 H1 locs ls hI1 ⟨Nat.le_trans hS.1 (by omega), fun x g1 g2 => (o1 x (Nat.lt_of_lt_of_le g1 hS.1)).trans (hS.2.1 x g1 g2), hS.2.2⟩ hL _ (by rw [← hH1, ← hT]; rfl) X'
  exact ⟨tt, st _ (by rw [hT]; exact b1), b2⟩
theorem z_castM (C : Cx X D B own cc ret hh nm post px rm) {a index : Nat} {x : vp_A} (hg : G a = some (.inl (7, x))) (hl : Cond.classLink own index "[LTrackArray$Measure;" ∈ lw_all) (hdg : decode cc pc = .ok (.checkcast index, 3))
    (g : Z X (pc + 3) L (.ref a :: rest) G n0 k0) : Z X pc L (.ref a :: rest) G n0 k0 := by
  obtain ⟨p, l, e, R, s, m, args, below, meth, c, Q, D0, B0, nL⟩ := X
  obtain ⟨hx, hb, hml, hown, hts, hW, -, -, -, -, -, rfl, rfl, rfl, rfl, -⟩ := C
  intro H locs ls hI hS hL
  exact va_castA hx hb hown (hts _ hl) (zP2 (hI.at hg)) 0 rfl (znmQ hW.1) hdg (g H locs ls hI hS hL)
theorem z_getsG (C : Cx X D B own cc ret hh nm post px rm) {index k : Nat} {cls ref n d : String} (hz : (cls, n, d, k) ∈ zSR2) (hsm : Cond.sameField ref cls n d ∈ lw_all) (hq : Cond.fieldLink own index ref n d ∈ lw_all) (hdg : decode cc pc = .ok (.getstatic index, 3)) (g : Z X (pc + 3) L (.ref (D.2.2.2 k) :: rest) G n0 k0) : Z X pc L rest G n0 k0 := by
  obtain ⟨p, l, e, R, s, m, args, below, meth, c, Q, D0, B0, nL⟩ := X
  obtain ⟨hx, hb, hml, hown, hts, hW, -, -, -, -, -, rfl, rfl, rfl, rfl, -⟩ := C
  intro H locs ls hI hS hL
  exact va_gets hx hb (hW.2.2.2.2.2.2.2.2.2.2.2.1 _ hz) hS hown (hts _ hq) (fun x hx => u_same (hts _ hsm) x hx) hdg (g H locs ls hI hS hL)
theorem z_sub1 {st : List Value} {q : Nat} {e : zE} (hq : G q = none) (g : Z X pc L st G n0 k0) : Z X pc L st (zup G q e) n0 k0 := z_sub (fun a x h => (zup_n (zne_of hq h)).trans h) g
end ZEN
