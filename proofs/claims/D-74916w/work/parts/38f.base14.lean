/-! made objects as signals and worths -/
/-- from every heap of I, a call of b's method answers w and keeps I -/
def zWo (D : zG) (B : Nat) (fc nm : String) (b : Nat) (I : zH → Prop) (w : Int32 → Int64) (ok : Int32 → Prop) (rm' : Room) (maxL : Nat) : Prop := ∀ G, I G → ∃ (i : Nat) (q : zLq) (vs : List Value) (y : MethodName) (bytes : ByteArray) (ret' : Option FieldType),
  zLMs[i]? = some q ∧ q.2.2.2.iface = fc ∧ q.2.2.2.name = nm ∧ G b = some (.inr (100 + i, vs)) ∧ vs.length = (zmk i).2.1.length ∧ y = ⟨q.2.2.2.implClass, q.2.2.2.implName, q.2.2.2.implDesc.toString⟩ ∧
  (∀ x, ok x → Ct D B y (ws_ y bytes maxL ret') rm' (vs ++ [Value.int x]) G (fun v G' => v = some (.long (w x)) ∧ I G') zno) ∧ Cond.initialized y.cls ∈ lw_all ∧ Cond.code y bytes maxL ret' ∈ lw_all ∧ zmT i y G vs ∧
  (parseMethodDescriptor y.desc).map (fun d => d.parameters.length) = some (if i = 1 ∨ i = 2 then vs.length + 1 else vs.length) ∧ y.cls ≠ "java/lang/invoke/MethodHandle" ∧ y.cls ≠ "java/lang/invoke/VarHandle"
abbrev zOKn (N : Nat) (x : Int32) : Prop := ∃ n, n < N ∧ x = nI n
def zSg (D : zG) (B : Nat) (G : zH) (b N : Nat) (f : Nat → Int32) : Prop := zWo D B "TrackArray$Signal" "at" b (fun G' => G' = G) (fun x => (f x.toNatClampNeg).toInt64) (zOKn N) { frames := 0, cells := 0, slots := 0, locals := 0 } 2
section ZSG
variable {X : zX} {D : zG} {B : Nat} {own : String} {cc : ByteArray} {ret : Option FieldType} {hh : List (Nat × Nat × Nat × Nat)} {nm : String} {post : Option Value → zH → Prop} {px : String → Nat → zH → Prop} {rm : Room} {pc : Nat} {L : zLs} {rest : List Value} {G : zH} {n0 k0 : Nat}
theorem z_callW (C : Cx X D B own cc ret hh nm post px rm) {fc nme : String} {b : Nat} {I : zH → Prop} {w : Int32 → Int64} {ok : Int32 → Prop} {rm' : Room} {maxL index count : Nat} {x : Int32} {st0 : List Value} (hs : zWo D B fc nme b I w ok rm' maxL) (hI : I G) (hx : ok x)
    (h1 : Cond.methodLink own index ⟨fc, nme, "(I)J"⟩ ∈ lw_all) (hdc : Cond.declares ⟨fc, nme, "(I)J"⟩ ∈ lw_tbl) (hOb : Cond.instantiable "java/lang/Object" 0 ∈ lw_all) (hmh : fc ≠ "java/lang/invoke/MethodHandle" ∧ fc ≠ "java/lang/invoke/VarHandle")
    (hR : rm'.frames + 2 ≤ rm.frames ∧ 8 + (2 + 11) + (8 + (maxL + 11) + rm'.locals) ≤ rm.locals) (hst : st0 = .int x :: .ref b :: rest) (hw : (rest.map fun v => v.category).sum ≤ 8) (hf : n0 + rm'.cells ≤ rm.cells ∧ k0 + rm'.slots ≤ rm.slots) (hdg : decode cc pc = .ok (.invokeinterface index count, 5))
    (kk : ∀ G' : zH, I G' → Z X (pc + 5) L (.long (w x) :: rest) G' (n0 + rm'.cells) (k0 + rm'.slots)) : Z X pc L st0 G n0 k0 := by
  obtain ⟨i, q, vs, y, bytes, ret', a1, a2, a3, a4, a5, a6, a7, a8, a9, a10, a11, a12⟩ := hs G hI
  subst a2
  subst a3
  exact z_callL C a1 a4 a5 a6 (a7 x hx) h1 hdc a8 a9 hOb a10 (fun v G' h => ⟨_, h.1⟩) a11 ⟨hmh, a12⟩ hR hst hw hf hdg (fun r G' h => by obtain ⟨h8, h9⟩ := h; cases h8; exact kk G' h9)
theorem z_sig (C : Cx X D B own cc ret hh nm post px rm) {b n N : Nat} {f : Nat → Int32} {index count : Nat} {st0 : List Value} (hs : zSg D B G b N f) (hn : n < N) (hN : N ≤ 256)
    (h1 : Cond.methodLink own index ⟨"TrackArray$Signal", "at", "(I)J"⟩ ∈ lw_all) (hdc : Cond.declares ⟨"TrackArray$Signal", "at", "(I)J"⟩ ∈ lw_tbl) (hOb : Cond.instantiable "java/lang/Object" 0 ∈ lw_all)
    (hR : Nat.ble 2 rm.frames = true ∧ Nat.ble 42 rm.locals = true) (hst : st0 = .int (nI n) :: .ref b :: rest) (hw : (rest.map fun v => v.category).sum ≤ 8) (hf : n0 ≤ rm.cells ∧ k0 ≤ rm.slots) (hdg : decode cc pc = .ok (.invokeinterface index count, 5))
    (kk : Z X (pc + 5) L (.long (f n).toInt64 :: rest) G n0 k0) : Z X pc L st0 G n0 k0 :=
  z_callW C (rm' := { frames := 0, cells := 0, slots := 0, locals := 0 }) hs rfl ⟨n, hn, rfl⟩ h1 hdc hOb ⟨by decide, by decide⟩ ⟨Nat.le_of_ble_eq_true hR.1, Nat.le_of_ble_eq_true hR.2⟩ hst hw hf hdg (fun G' h => by subst h; rw [nI_clamp (by omega)]; exact kk)
end ZSG
