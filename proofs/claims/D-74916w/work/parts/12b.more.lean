/-! long compares with their branch; loops' arithmetic -/
section ZR3
variable {X : zX} {D : zG} {B : Nat} {own : String} {cc : ByteArray} {ret : Option FieldType} {hh : List (Nat × Nat × Nat × Nat)} {nm : String} {post : Option Value → zH → Prop} {px : String → Nat → zH → Prop} {rm : Room} {pc : Nat} {L : zLs} {rest : List Value} {G : zH} {n0 k0 : Nat}
theorem z_lcmp (C : Cx X D B own cc ret hh nm post px rm) {x y : Int64} (hdg : decode cc pc = .ok (.lcmp, 1)) (k : Z X (pc + 1) L (.int (lg_cmp x y) :: rest) G n0 k0) : Z X pc L (.long y :: .long x :: rest) G n0 k0 := by
  obtain ⟨p, l, e, R, s, m, args, below, meth, c, Q, D0, B0, nL⟩ := X
  obtain ⟨hx, hb, hml, hown, hts, -, -, -, -, -, -, rfl, rfl, rfl, rfl, -⟩ := C
  intro H locs ls hI hS hL
  exact W.lcmp hx hb hdg (k H locs ls hI hS hL)
theorem z_lc_ge (C : Cx X D B own cc ret hh nm post px rm) {x y : Int64} {off : Int} {tgt : Nat} (h1 : decode cc pc = .ok (.lcmp, 1)) (h2 : decode cc (pc + 1) = .ok (.ifCond .ge off, 3)) (ht : ((pc + 1 : Nat) : Int) + off = (tgt : Int)) (kt : y ≤ x → Z X tgt L rest G n0 k0) (kf : ¬ y ≤ x → Z X (pc + 1 + 3) L rest G n0 k0) : Z X pc L (.long y :: .long x :: rest) G n0 k0 :=
  z_lcmp C h1 (z_if_ge C h2 ht (fun q => kt ((lg_cmp_ge x y).mp q)) (fun q => kf (fun h => q ((lg_cmp_ge x y).mpr h))))
theorem z_lc_gt (C : Cx X D B own cc ret hh nm post px rm) {x y : Int64} {off : Int} {tgt : Nat} (h1 : decode cc pc = .ok (.lcmp, 1)) (h2 : decode cc (pc + 1) = .ok (.ifCond .gt off, 3)) (ht : ((pc + 1 : Nat) : Int) + off = (tgt : Int)) (kt : y < x → Z X tgt L rest G n0 k0) (kf : ¬ y < x → Z X (pc + 1 + 3) L rest G n0 k0) : Z X pc L (.long y :: .long x :: rest) G n0 k0 :=
  z_lcmp C h1 (z_if_gt C h2 ht (fun q => kt ((lg_cmp_gt x y).mp q)) (fun q => kf (fun h => q ((lg_cmp_gt x y).mpr h))))
theorem z_lc_le (C : Cx X D B own cc ret hh nm post px rm) {x y : Int64} {off : Int} {tgt : Nat} (h1 : decode cc pc = .ok (.lcmp, 1)) (h2 : decode cc (pc + 1) = .ok (.ifCond .le off, 3)) (ht : ((pc + 1 : Nat) : Int) + off = (tgt : Int)) (kt : x ≤ y → Z X tgt L rest G n0 k0) (kf : ¬ x ≤ y → Z X (pc + 1 + 3) L rest G n0 k0) : Z X pc L (.long y :: .long x :: rest) G n0 k0 :=
  z_lcmp C h1 (z_if_le C h2 ht (fun q => kt ((lg_cmp_le x y).mp q)) (fun q => kf (fun h => q ((lg_cmp_le x y).mpr h))))
theorem z_lc_lt (C : Cx X D B own cc ret hh nm post px rm) {x y : Int64} {off : Int} {tgt : Nat} (h1 : decode cc pc = .ok (.lcmp, 1)) (h2 : decode cc (pc + 1) = .ok (.ifCond .lt off, 3)) (ht : ((pc + 1 : Nat) : Int) + off = (tgt : Int)) (kt : x < y → Z X tgt L rest G n0 k0) (kf : ¬ x < y → Z X (pc + 1 + 3) L rest G n0 k0) : Z X pc L (.long y :: .long x :: rest) G n0 k0 :=
  z_lcmp C h1 (z_if_lt C h2 ht (fun q => kt ((lg_cmp_lt x y).mp q)) (fun q => kf (fun h => q ((lg_cmp_lt x y).mpr h))))
theorem z_lc_eq (C : Cx X D B own cc ret hh nm post px rm) {x y : Int64} {off : Int} {tgt : Nat} (h1 : decode cc pc = .ok (.lcmp, 1)) (h2 : decode cc (pc + 1) = .ok (.ifCond .eq off, 3)) (ht : ((pc + 1 : Nat) : Int) + off = (tgt : Int)) (kt : x = y → Z X tgt L rest G n0 k0) (kf : ¬ x = y → Z X (pc + 1 + 3) L rest G n0 k0) : Z X pc L (.long y :: .long x :: rest) G n0 k0 :=
  z_lcmp C h1 (z_if_eq C h2 ht (fun q => kt ((lg_cmp_eq x y).mp q)) (fun q => kf (fun h => q ((lg_cmp_eq x y).mpr h))))
theorem z_lc_ne (C : Cx X D B own cc ret hh nm post px rm) {x y : Int64} {off : Int} {tgt : Nat} (h1 : decode cc pc = .ok (.lcmp, 1)) (h2 : decode cc (pc + 1) = .ok (.ifCond .ne off, 3)) (ht : ((pc + 1 : Nat) : Int) + off = (tgt : Int)) (kt : ¬ x = y → Z X tgt L rest G n0 k0) (kf : x = y → Z X (pc + 1 + 3) L rest G n0 k0) : Z X pc L (.long y :: .long x :: rest) G n0 k0 :=
  z_lcmp C h1 (z_if_ne C h2 ht (fun q => kt (fun h => q ((lg_cmp_eq x y).mpr h))) (fun q => kf ((lg_cmp_eq x y).mp q)))
end ZR3
theorem ziinc (i : Nat) : nI i + Int32.ofInt 1 = nI (i + 1) := nI_1 i
theorem zup_zup {h : zH} {a : Nat} {e1 e2 : zE} : zup (zup h a e1) a e2 = zup h a e2 := by
  funext q
  unfold zup
  split <;> rfl
theorem zlin (c a k f : Nat) : nI c + nI a * nI k + nI f = nI (c + a * k + f) := by rw [pk_mul, nI_add, nI_add]
theorem zlin0 (c a k : Nat) : nI c + nI a * nI k = nI (c + a * k) := by rw [pk_mul, nI_add]
/-- not at the loop's end -/
theorem znge {i b : Nat} (h : ¬ nI b ≤ nI i) (hi : i < 2 ^ 31) (hb : b < 2 ^ 31) : i < b := Nat.lt_of_not_le fun q => h (nI_le q hi)
theorem zge {i b : Nat} (h : nI b ≤ nI i) (hi : i < 2 ^ 31) (hb : b < 2 ^ 31) : b ≤ i := (nI_leI hb hi).mp h
theorem zngt {i b : Nat} (h : ¬ nI b < nI i) (hi : i < 2 ^ 31) (hb : b < 2 ^ 31) : i ≤ b := Nat.le_of_not_lt fun q => h (nI_lt q hi)
theorem zgt {i b : Nat} (h : nI b < nI i) (hi : i < 2 ^ 31) (hb : b < 2 ^ 31) : b < i := (nI_ltI hb hi).mp h
theorem zne {n b : Nat} (h : n < b) (hb : b < 2 ^ 31) : ¬ nI n = nI b := fun e => absurd ((nI_eq (Nat.lt_trans h hb) hb).mp e) (by omega)
