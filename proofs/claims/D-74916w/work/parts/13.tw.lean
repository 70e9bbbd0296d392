/-! the twin: its object and its ten arrays, over any heap b -/
abbrev tA : Type := {f : Nat → Nat // ∀ i j : Nat, i ≤ 10 → j ≤ 10 → f i = f j → i = j}
theorem tne (t : tA) {i j : Nat} (hi : i ≤ 10) (hj : j ≤ 10) (h : i ≠ j) : t.1 i ≠ t.1 j := fun e => h (t.2 i j hi hj e)
def tw (b : zH) (t : tA) (st : Nat → Int32) (bk : Nat → Int32) (sv : Nat → Int32) (iz : Nat → Int32) (th : Int32) (di : Nat → Int32) (re : Nat → Int32) (si : Nat → Int32) (pa : Nat → Int32) (fo : Nat → Int64) (te : Nat → Int32) (tl : Int32) (po : Int32) (ts : Int32) (to : Int32) (le : Int32) (nu : Int32) (ec : Int32) (ep : Int32) (wo : Int64) : zH := fun q => if q = t.1 0 then some (.inr (3, [.ref (t.1 1), .ref (t.1 2), .ref (t.1 3), .ref (t.1 4), .int th, .ref (t.1 5), .ref (t.1 6), .ref (t.1 7), .ref (t.1 8), .ref (t.1 9), .ref (t.1 10), .int tl, .int po, .int ts, .int to, .int le, .int nu, .int ec, .int ep, .long wo]))
  else if q = t.1 1 then some (.inl (0, 2234, .inl st))
  else if q = t.1 2 then some (.inl (0, 2234, .inl bk))
  else if q = t.1 3 then some (.inl (0, 4468, .inl sv))
  else if q = t.1 4 then some (.inl (3, 2, .inl iz))
  else if q = t.1 5 then some (.inl (0, 256, .inl di))
  else if q = t.1 6 then some (.inl (0, 256, .inl re))
  else if q = t.1 7 then some (.inl (0, 256, .inl si))
  else if q = t.1 8 then some (.inl (0, 256, .inl pa))
  else if q = t.1 9 then some (.inl (1, 64, .inr (.inl fo)))
  else if q = t.1 10 then some (.inl (0, 500, .inl te))
  else b q
/-- the place of an index -/
def zix (i : Int32) (j n : Nat) : Prop := i = nI j ∧ j < n
theorem zix.vin {i : Int32} {j n : Nat} (h : zix i j n) (hn : n < 2 ^ 31) : vp_in i n := by rw [h.1]; exact vp_in_nI h.2 hn
theorem zix.cl {i : Int32} {j n : Nat} (h : zix i j n) (hn : n < 2 ^ 31) : i.toNatClampNeg = j := by rw [h.1]; exact nI_clamp (Nat.lt_trans h.2 hn)
theorem zfit_I (x : Int32) : zfit "I" (.int x) := ⟨.int, by decide +kernel, rfl, rfl⟩
theorem zfit_J (x : Int64) : zfit "J" (.long x) := ⟨.long, by decide +kernel, rfl, rfl⟩
section TW
variable {b : zH} {t : tA} {st : Nat → Int32} {bk : Nat → Int32} {sv : Nat → Int32} {iz : Nat → Int32} {th : Int32} {di : Nat → Int32} {re : Nat → Int32} {si : Nat → Int32} {pa : Nat → Int32} {fo : Nat → Int64} {te : Nat → Int32} {tl : Int32} {po : Int32} {ts : Int32} {to : Int32} {le : Int32} {nu : Int32} {ec : Int32} {ep : Int32} {wo : Int64}
theorem tw_obj : (tw b t st bk sv iz th di re si pa fo te tl po ts to le nu ec ep wo) (t.1 0) = some (.inr (3, [.ref (t.1 1), .ref (t.1 2), .ref (t.1 3), .ref (t.1 4), .int th, .ref (t.1 5), .ref (t.1 6), .ref (t.1 7), .ref (t.1 8), .ref (t.1 9), .ref (t.1 10), .int tl, .int po, .int ts, .int to, .int le, .int nu, .int ec, .int ep, .long wo])) := if_pos rfl
theorem tw_state : (tw b t st bk sv iz th di re si pa fo te tl po ts to le nu ec ep wo) (t.1 1) = some (.inl (0, 2234, .inl st)) := by
  unfold tw
  rw [if_neg (tne t (i := 1) (j := 0) (by decide) (by decide) (by decide)), if_pos rfl]
theorem tu_state (x : Nat → Int32) : zup (tw b t st bk sv iz th di re si pa fo te tl po ts to le nu ec ep wo) (t.1 1) (.inl (0, 2234, .inl x)) = (tw b t x bk sv iz th di re si pa fo te tl po ts to le nu ec ep wo) := by
  funext q
  unfold zup tw
  by_cases h : q = t.1 1
  · subst h
    rw [if_pos rfl, if_neg (tne t (i := 1) (j := 0) (by decide) (by decide) (by decide)), if_pos rfl]
  · rw [if_neg h]
    simp only [h, if_false]
theorem tw_backup : (tw b t st bk sv iz th di re si pa fo te tl po ts to le nu ec ep wo) (t.1 2) = some (.inl (0, 2234, .inl bk)) := by
  unfold tw
  rw [if_neg (tne t (i := 2) (j := 0) (by decide) (by decide) (by decide)), if_neg (tne t (i := 2) (j := 1) (by decide) (by decide) (by decide)), if_pos rfl]
theorem tu_backup (x : Nat → Int32) : zup (tw b t st bk sv iz th di re si pa fo te tl po ts to le nu ec ep wo) (t.1 2) (.inl (0, 2234, .inl x)) = (tw b t st x sv iz th di re si pa fo te tl po ts to le nu ec ep wo) := by
  funext q
  unfold zup tw
  by_cases h : q = t.1 2
  · subst h
    rw [if_pos rfl, if_neg (tne t (i := 2) (j := 0) (by decide) (by decide) (by decide)), if_neg (tne t (i := 2) (j := 1) (by decide) (by decide) (by decide)), if_pos rfl]
  · rw [if_neg h]
    simp only [h, if_false]
theorem tw_saved : (tw b t st bk sv iz th di re si pa fo te tl po ts to le nu ec ep wo) (t.1 3) = some (.inl (0, 4468, .inl sv)) := by
  unfold tw
  rw [if_neg (tne t (i := 3) (j := 0) (by decide) (by decide) (by decide)), if_neg (tne t (i := 3) (j := 1) (by decide) (by decide) (by decide)), if_neg (tne t (i := 3) (j := 2) (by decide) (by decide) (by decide)), if_pos rfl]
theorem tu_saved (x : Nat → Int32) : zup (tw b t st bk sv iz th di re si pa fo te tl po ts to le nu ec ep wo) (t.1 3) (.inl (0, 4468, .inl x)) = (tw b t st bk x iz th di re si pa fo te tl po ts to le nu ec ep wo) := by
  funext q
  unfold zup tw
  by_cases h : q = t.1 3
  · subst h
    rw [if_pos rfl, if_neg (tne t (i := 3) (j := 0) (by decide) (by decide) (by decide)), if_neg (tne t (i := 3) (j := 1) (by decide) (by decide) (by decide)), if_neg (tne t (i := 3) (j := 2) (by decide) (by decide) (by decide)), if_pos rfl]
  · rw [if_neg h]
    simp only [h, if_false]
theorem tw_isSaved : (tw b t st bk sv iz th di re si pa fo te tl po ts to le nu ec ep wo) (t.1 4) = some (.inl (3, 2, .inl iz)) := by
  unfold tw
  rw [if_neg (tne t (i := 4) (j := 0) (by decide) (by decide) (by decide)), if_neg (tne t (i := 4) (j := 1) (by decide) (by decide) (by decide)), if_neg (tne t (i := 4) (j := 2) (by decide) (by decide) (by decide)), if_neg (tne t (i := 4) (j := 3) (by decide) (by decide) (by decide)), if_pos rfl]
theorem tu_isSaved (x : Nat → Int32) : zup (tw b t st bk sv iz th di re si pa fo te tl po ts to le nu ec ep wo) (t.1 4) (.inl (3, 2, .inl x)) = (tw b t st bk sv x th di re si pa fo te tl po ts to le nu ec ep wo) := by
  funext q
  unfold zup tw
  by_cases h : q = t.1 4
  · subst h
    rw [if_pos rfl, if_neg (tne t (i := 4) (j := 0) (by decide) (by decide) (by decide)), if_neg (tne t (i := 4) (j := 1) (by decide) (by decide) (by decide)), if_neg (tne t (i := 4) (j := 2) (by decide) (by decide) (by decide)), if_neg (tne t (i := 4) (j := 3) (by decide) (by decide) (by decide)), if_pos rfl]
  · rw [if_neg h]
    simp only [h, if_false]
theorem tw_distances : (tw b t st bk sv iz th di re si pa fo te tl po ts to le nu ec ep wo) (t.1 5) = some (.inl (0, 256, .inl di)) := by
  unfold tw
  rw [if_neg (tne t (i := 5) (j := 0) (by decide) (by decide) (by decide)), if_neg (tne t (i := 5) (j := 1) (by decide) (by decide) (by decide)), if_neg (tne t (i := 5) (j := 2) (by decide) (by decide) (by decide)), if_neg (tne t (i := 5) (j := 3) (by decide) (by decide) (by decide)), if_neg (tne t (i := 5) (j := 4) (by decide) (by decide) (by decide)), if_pos rfl]
theorem tu_distances (x : Nat → Int32) : zup (tw b t st bk sv iz th di re si pa fo te tl po ts to le nu ec ep wo) (t.1 5) (.inl (0, 256, .inl x)) = (tw b t st bk sv iz th x re si pa fo te tl po ts to le nu ec ep wo) := by
  funext q
  unfold zup tw
  by_cases h : q = t.1 5
  · subst h
    rw [if_pos rfl, if_neg (tne t (i := 5) (j := 0) (by decide) (by decide) (by decide)), if_neg (tne t (i := 5) (j := 1) (by decide) (by decide) (by decide)), if_neg (tne t (i := 5) (j := 2) (by decide) (by decide) (by decide)), if_neg (tne t (i := 5) (j := 3) (by decide) (by decide) (by decide)), if_neg (tne t (i := 5) (j := 4) (by decide) (by decide) (by decide)), if_pos rfl]
  · rw [if_neg h]
    simp only [h, if_false]
theorem tw_reflections : (tw b t st bk sv iz th di re si pa fo te tl po ts to le nu ec ep wo) (t.1 6) = some (.inl (0, 256, .inl re)) := by
  unfold tw
  rw [if_neg (tne t (i := 6) (j := 0) (by decide) (by decide) (by decide)), if_neg (tne t (i := 6) (j := 1) (by decide) (by decide) (by decide)), if_neg (tne t (i := 6) (j := 2) (by decide) (by decide) (by decide)), if_neg (tne t (i := 6) (j := 3) (by decide) (by decide) (by decide)), if_neg (tne t (i := 6) (j := 4) (by decide) (by decide) (by decide)), if_neg (tne t (i := 6) (j := 5) (by decide) (by decide) (by decide)), if_pos rfl]
theorem tu_reflections (x : Nat → Int32) : zup (tw b t st bk sv iz th di re si pa fo te tl po ts to le nu ec ep wo) (t.1 6) (.inl (0, 256, .inl x)) = (tw b t st bk sv iz th di x si pa fo te tl po ts to le nu ec ep wo) := by
  funext q
  unfold zup tw
  by_cases h : q = t.1 6
  · subst h
    rw [if_pos rfl, if_neg (tne t (i := 6) (j := 0) (by decide) (by decide) (by decide)), if_neg (tne t (i := 6) (j := 1) (by decide) (by decide) (by decide)), if_neg (tne t (i := 6) (j := 2) (by decide) (by decide) (by decide)), if_neg (tne t (i := 6) (j := 3) (by decide) (by decide) (by decide)), if_neg (tne t (i := 6) (j := 4) (by decide) (by decide) (by decide)), if_neg (tne t (i := 6) (j := 5) (by decide) (by decide) (by decide)), if_pos rfl]
  · rw [if_neg h]
    simp only [h, if_false]
theorem tw_signal : (tw b t st bk sv iz th di re si pa fo te tl po ts to le nu ec ep wo) (t.1 7) = some (.inl (0, 256, .inl si)) := by
  unfold tw
  rw [if_neg (tne t (i := 7) (j := 0) (by decide) (by decide) (by decide)), if_neg (tne t (i := 7) (j := 1) (by decide) (by decide) (by decide)), if_neg (tne t (i := 7) (j := 2) (by decide) (by decide) (by decide)), if_neg (tne t (i := 7) (j := 3) (by decide) (by decide) (by decide)), if_neg (tne t (i := 7) (j := 4) (by decide) (by decide) (by decide)), if_neg (tne t (i := 7) (j := 5) (by decide) (by decide) (by decide)), if_neg (tne t (i := 7) (j := 6) (by decide) (by decide) (by decide)), if_pos rfl]
theorem tu_signal (x : Nat → Int32) : zup (tw b t st bk sv iz th di re si pa fo te tl po ts to le nu ec ep wo) (t.1 7) (.inl (0, 256, .inl x)) = (tw b t st bk sv iz th di re x pa fo te tl po ts to le nu ec ep wo) := by
  funext q
  unfold zup tw
  by_cases h : q = t.1 7
  · subst h
    rw [if_pos rfl, if_neg (tne t (i := 7) (j := 0) (by decide) (by decide) (by decide)), if_neg (tne t (i := 7) (j := 1) (by decide) (by decide) (by decide)), if_neg (tne t (i := 7) (j := 2) (by decide) (by decide) (by decide)), if_neg (tne t (i := 7) (j := 3) (by decide) (by decide) (by decide)), if_neg (tne t (i := 7) (j := 4) (by decide) (by decide) (by decide)), if_neg (tne t (i := 7) (j := 5) (by decide) (by decide) (by decide)), if_neg (tne t (i := 7) (j := 6) (by decide) (by decide) (by decide)), if_pos rfl]
  · rw [if_neg h]
    simp only [h, if_false]
theorem tw_parts : (tw b t st bk sv iz th di re si pa fo te tl po ts to le nu ec ep wo) (t.1 8) = some (.inl (0, 256, .inl pa)) := by
  unfold tw
  rw [if_neg (tne t (i := 8) (j := 0) (by decide) (by decide) (by decide)), if_neg (tne t (i := 8) (j := 1) (by decide) (by decide) (by decide)), if_neg (tne t (i := 8) (j := 2) (by decide) (by decide) (by decide)), if_neg (tne t (i := 8) (j := 3) (by decide) (by decide) (by decide)), if_neg (tne t (i := 8) (j := 4) (by decide) (by decide) (by decide)), if_neg (tne t (i := 8) (j := 5) (by decide) (by decide) (by decide)), if_neg (tne t (i := 8) (j := 6) (by decide) (by decide) (by decide)), if_neg (tne t (i := 8) (j := 7) (by decide) (by decide) (by decide)), if_pos rfl]
theorem tu_parts (x : Nat → Int32) : zup (tw b t st bk sv iz th di re si pa fo te tl po ts to le nu ec ep wo) (t.1 8) (.inl (0, 256, .inl x)) = (tw b t st bk sv iz th di re si x fo te tl po ts to le nu ec ep wo) := by
  funext q
  unfold zup tw
  by_cases h : q = t.1 8
  · subst h
    rw [if_pos rfl, if_neg (tne t (i := 8) (j := 0) (by decide) (by decide) (by decide)), if_neg (tne t (i := 8) (j := 1) (by decide) (by decide) (by decide)), if_neg (tne t (i := 8) (j := 2) (by decide) (by decide) (by decide)), if_neg (tne t (i := 8) (j := 3) (by decide) (by decide) (by decide)), if_neg (tne t (i := 8) (j := 4) (by decide) (by decide) (by decide)), if_neg (tne t (i := 8) (j := 5) (by decide) (by decide) (by decide)), if_neg (tne t (i := 8) (j := 6) (by decide) (by decide) (by decide)), if_neg (tne t (i := 8) (j := 7) (by decide) (by decide) (by decide)), if_pos rfl]
  · rw [if_neg h]
    simp only [h, if_false]
theorem tw_folded : (tw b t st bk sv iz th di re si pa fo te tl po ts to le nu ec ep wo) (t.1 9) = some (.inl (1, 64, .inr (.inl fo))) := by
  unfold tw
  rw [if_neg (tne t (i := 9) (j := 0) (by decide) (by decide) (by decide)), if_neg (tne t (i := 9) (j := 1) (by decide) (by decide) (by decide)), if_neg (tne t (i := 9) (j := 2) (by decide) (by decide) (by decide)), if_neg (tne t (i := 9) (j := 3) (by decide) (by decide) (by decide)), if_neg (tne t (i := 9) (j := 4) (by decide) (by decide) (by decide)), if_neg (tne t (i := 9) (j := 5) (by decide) (by decide) (by decide)), if_neg (tne t (i := 9) (j := 6) (by decide) (by decide) (by decide)), if_neg (tne t (i := 9) (j := 7) (by decide) (by decide) (by decide)), if_neg (tne t (i := 9) (j := 8) (by decide) (by decide) (by decide)), if_pos rfl]
theorem tu_folded (x : Nat → Int64) : zup (tw b t st bk sv iz th di re si pa fo te tl po ts to le nu ec ep wo) (t.1 9) (.inl (1, 64, .inr (.inl x))) = (tw b t st bk sv iz th di re si pa x te tl po ts to le nu ec ep wo) := by
  funext q
  unfold zup tw
  by_cases h : q = t.1 9
  · subst h
    rw [if_pos rfl, if_neg (tne t (i := 9) (j := 0) (by decide) (by decide) (by decide)), if_neg (tne t (i := 9) (j := 1) (by decide) (by decide) (by decide)), if_neg (tne t (i := 9) (j := 2) (by decide) (by decide) (by decide)), if_neg (tne t (i := 9) (j := 3) (by decide) (by decide) (by decide)), if_neg (tne t (i := 9) (j := 4) (by decide) (by decide) (by decide)), if_neg (tne t (i := 9) (j := 5) (by decide) (by decide) (by decide)), if_neg (tne t (i := 9) (j := 6) (by decide) (by decide) (by decide)), if_neg (tne t (i := 9) (j := 7) (by decide) (by decide) (by decide)), if_neg (tne t (i := 9) (j := 8) (by decide) (by decide) (by decide)), if_pos rfl]
  · rw [if_neg h]
    simp only [h, if_false]
theorem tw_text : (tw b t st bk sv iz th di re si pa fo te tl po ts to le nu ec ep wo) (t.1 10) = some (.inl (0, 500, .inl te)) := by
  unfold tw
  rw [if_neg (tne t (i := 10) (j := 0) (by decide) (by decide) (by decide)), if_neg (tne t (i := 10) (j := 1) (by decide) (by decide) (by decide)), if_neg (tne t (i := 10) (j := 2) (by decide) (by decide) (by decide)), if_neg (tne t (i := 10) (j := 3) (by decide) (by decide) (by decide)), if_neg (tne t (i := 10) (j := 4) (by decide) (by decide) (by decide)), if_neg (tne t (i := 10) (j := 5) (by decide) (by decide) (by decide)), if_neg (tne t (i := 10) (j := 6) (by decide) (by decide) (by decide)), if_neg (tne t (i := 10) (j := 7) (by decide) (by decide) (by decide)), if_neg (tne t (i := 10) (j := 8) (by decide) (by decide) (by decide)), if_neg (tne t (i := 10) (j := 9) (by decide) (by decide) (by decide)), if_pos rfl]
theorem tu_text (x : Nat → Int32) : zup (tw b t st bk sv iz th di re si pa fo te tl po ts to le nu ec ep wo) (t.1 10) (.inl (0, 500, .inl x)) = (tw b t st bk sv iz th di re si pa fo x tl po ts to le nu ec ep wo) := by
  funext q
  unfold zup tw
  by_cases h : q = t.1 10
  · subst h
    rw [if_pos rfl, if_neg (tne t (i := 10) (j := 0) (by decide) (by decide) (by decide)), if_neg (tne t (i := 10) (j := 1) (by decide) (by decide) (by decide)), if_neg (tne t (i := 10) (j := 2) (by decide) (by decide) (by decide)), if_neg (tne t (i := 10) (j := 3) (by decide) (by decide) (by decide)), if_neg (tne t (i := 10) (j := 4) (by decide) (by decide) (by decide)), if_neg (tne t (i := 10) (j := 5) (by decide) (by decide) (by decide)), if_neg (tne t (i := 10) (j := 6) (by decide) (by decide) (by decide)), if_neg (tne t (i := 10) (j := 7) (by decide) (by decide) (by decide)), if_neg (tne t (i := 10) (j := 8) (by decide) (by decide) (by decide)), if_neg (tne t (i := 10) (j := 9) (by decide) (by decide) (by decide)), if_pos rfl]
  · rw [if_neg h]
    simp only [h, if_false]
theorem tu_thrown (x : Int32) : zup (tw b t st bk sv iz th di re si pa fo te tl po ts to le nu ec ep wo) (t.1 0) (.inr (3, [.ref (t.1 1), .ref (t.1 2), .ref (t.1 3), .ref (t.1 4), .int x, .ref (t.1 5), .ref (t.1 6), .ref (t.1 7), .ref (t.1 8), .ref (t.1 9), .ref (t.1 10), .int tl, .int po, .int ts, .int to, .int le, .int nu, .int ec, .int ep, .long wo])) = (tw b t st bk sv iz x di re si pa fo te tl po ts to le nu ec ep wo) := by
  funext q
  unfold zup tw
  by_cases h : q = t.1 0
  · rw [if_pos h, if_pos h]
  · rw [if_neg h, if_neg h, if_neg h]
theorem tu_textLength (x : Int32) : zup (tw b t st bk sv iz th di re si pa fo te tl po ts to le nu ec ep wo) (t.1 0) (.inr (3, [.ref (t.1 1), .ref (t.1 2), .ref (t.1 3), .ref (t.1 4), .int th, .ref (t.1 5), .ref (t.1 6), .ref (t.1 7), .ref (t.1 8), .ref (t.1 9), .ref (t.1 10), .int x, .int po, .int ts, .int to, .int le, .int nu, .int ec, .int ep, .long wo])) = (tw b t st bk sv iz th di re si pa fo te x po ts to le nu ec ep wo) := by
  funext q
  unfold zup tw
  by_cases h : q = t.1 0
  · rw [if_pos h, if_pos h]
  · rw [if_neg h, if_neg h, if_neg h]
theorem tu_position (x : Int32) : zup (tw b t st bk sv iz th di re si pa fo te tl po ts to le nu ec ep wo) (t.1 0) (.inr (3, [.ref (t.1 1), .ref (t.1 2), .ref (t.1 3), .ref (t.1 4), .int th, .ref (t.1 5), .ref (t.1 6), .ref (t.1 7), .ref (t.1 8), .ref (t.1 9), .ref (t.1 10), .int tl, .int x, .int ts, .int to, .int le, .int nu, .int ec, .int ep, .long wo])) = (tw b t st bk sv iz th di re si pa fo te tl x ts to le nu ec ep wo) := by
  funext q
  unfold zup tw
  by_cases h : q = t.1 0
  · rw [if_pos h, if_pos h]
  · rw [if_neg h, if_neg h, if_neg h]
theorem tu_tokenStart (x : Int32) : zup (tw b t st bk sv iz th di re si pa fo te tl po ts to le nu ec ep wo) (t.1 0) (.inr (3, [.ref (t.1 1), .ref (t.1 2), .ref (t.1 3), .ref (t.1 4), .int th, .ref (t.1 5), .ref (t.1 6), .ref (t.1 7), .ref (t.1 8), .ref (t.1 9), .ref (t.1 10), .int tl, .int po, .int x, .int to, .int le, .int nu, .int ec, .int ep, .long wo])) = (tw b t st bk sv iz th di re si pa fo te tl po x to le nu ec ep wo) := by
  funext q
  unfold zup tw
  by_cases h : q = t.1 0
  · rw [if_pos h, if_pos h]
  · rw [if_neg h, if_neg h, if_neg h]
theorem tu_token (x : Int32) : zup (tw b t st bk sv iz th di re si pa fo te tl po ts to le nu ec ep wo) (t.1 0) (.inr (3, [.ref (t.1 1), .ref (t.1 2), .ref (t.1 3), .ref (t.1 4), .int th, .ref (t.1 5), .ref (t.1 6), .ref (t.1 7), .ref (t.1 8), .ref (t.1 9), .ref (t.1 10), .int tl, .int po, .int ts, .int x, .int le, .int nu, .int ec, .int ep, .long wo])) = (tw b t st bk sv iz th di re si pa fo te tl po ts x le nu ec ep wo) := by
  funext q
  unfold zup tw
  by_cases h : q = t.1 0
  · rw [if_pos h, if_pos h]
  · rw [if_neg h, if_neg h, if_neg h]
theorem tu_letters (x : Int32) : zup (tw b t st bk sv iz th di re si pa fo te tl po ts to le nu ec ep wo) (t.1 0) (.inr (3, [.ref (t.1 1), .ref (t.1 2), .ref (t.1 3), .ref (t.1 4), .int th, .ref (t.1 5), .ref (t.1 6), .ref (t.1 7), .ref (t.1 8), .ref (t.1 9), .ref (t.1 10), .int tl, .int po, .int ts, .int to, .int x, .int nu, .int ec, .int ep, .long wo])) = (tw b t st bk sv iz th di re si pa fo te tl po ts to x nu ec ep wo) := by
  funext q
  unfold zup tw
  by_cases h : q = t.1 0
  · rw [if_pos h, if_pos h]
  · rw [if_neg h, if_neg h, if_neg h]
theorem tu_number (x : Int32) : zup (tw b t st bk sv iz th di re si pa fo te tl po ts to le nu ec ep wo) (t.1 0) (.inr (3, [.ref (t.1 1), .ref (t.1 2), .ref (t.1 3), .ref (t.1 4), .int th, .ref (t.1 5), .ref (t.1 6), .ref (t.1 7), .ref (t.1 8), .ref (t.1 9), .ref (t.1 10), .int tl, .int po, .int ts, .int to, .int le, .int x, .int ec, .int ep, .long wo])) = (tw b t st bk sv iz th di re si pa fo te tl po ts to le x ec ep wo) := by
  funext q
  unfold zup tw
  by_cases h : q = t.1 0
  · rw [if_pos h, if_pos h]
  · rw [if_neg h, if_neg h, if_neg h]
theorem tu_errorCode (x : Int32) : zup (tw b t st bk sv iz th di re si pa fo te tl po ts to le nu ec ep wo) (t.1 0) (.inr (3, [.ref (t.1 1), .ref (t.1 2), .ref (t.1 3), .ref (t.1 4), .int th, .ref (t.1 5), .ref (t.1 6), .ref (t.1 7), .ref (t.1 8), .ref (t.1 9), .ref (t.1 10), .int tl, .int po, .int ts, .int to, .int le, .int nu, .int x, .int ep, .long wo])) = (tw b t st bk sv iz th di re si pa fo te tl po ts to le nu x ep wo) := by
  funext q
  unfold zup tw
  by_cases h : q = t.1 0
  · rw [if_pos h, if_pos h]
  · rw [if_neg h, if_neg h, if_neg h]
theorem tu_errorPosition (x : Int32) : zup (tw b t st bk sv iz th di re si pa fo te tl po ts to le nu ec ep wo) (t.1 0) (.inr (3, [.ref (t.1 1), .ref (t.1 2), .ref (t.1 3), .ref (t.1 4), .int th, .ref (t.1 5), .ref (t.1 6), .ref (t.1 7), .ref (t.1 8), .ref (t.1 9), .ref (t.1 10), .int tl, .int po, .int ts, .int to, .int le, .int nu, .int ec, .int x, .long wo])) = (tw b t st bk sv iz th di re si pa fo te tl po ts to le nu ec x wo) := by
  funext q
  unfold zup tw
  by_cases h : q = t.1 0
  · rw [if_pos h, if_pos h]
  · rw [if_neg h, if_neg h, if_neg h]
theorem tu_word (x : Int64) : zup (tw b t st bk sv iz th di re si pa fo te tl po ts to le nu ec ep wo) (t.1 0) (.inr (3, [.ref (t.1 1), .ref (t.1 2), .ref (t.1 3), .ref (t.1 4), .int th, .ref (t.1 5), .ref (t.1 6), .ref (t.1 7), .ref (t.1 8), .ref (t.1 9), .ref (t.1 10), .int tl, .int po, .int ts, .int to, .int le, .int nu, .int ec, .int ep, .long x])) = (tw b t st bk sv iz th di re si pa fo te tl po ts to le nu ec ep x) := by
  funext q
  unfold zup tw
  by_cases h : q = t.1 0
  · rw [if_pos h, if_pos h]
  · rw [if_neg h, if_neg h, if_neg h]
variable {X : zX} {D : zG} {B : Nat} {own : String} {cc : ByteArray} {ret : Option FieldType} {hh : List (Nat × Nat × Nat × Nat)} {nm : String} {post : Option Value → zH → Prop} {px : String → Nat → zH → Prop} {rm : Room} {pc : Nat} {L : zLs} {rest : List Value} {n0 k0 : Nat}
theorem tg_state (C : Cx X D B own cc ret hh nm post px rm) {index : Nat} (hq : Cond.fieldLink own index "TrackArrayModel" "state" "[I" ∈ lw_all) (hdg : decode cc pc = .ok (.getfield index, 3)) (g : Z X (pc + 3) L (.ref (t.1 1) :: rest) (tw b t st bk sv iz th di re si pa fo te tl po ts to le nu ec ep wo) n0 k0) : Z X pc L (.ref (t.1 0) :: rest) (tw b t st bk sv iz th di re si pa fo te tl po ts to le nu ec ep wo) n0 k0 := z_getf (ci := 3) (k := 0) C tw_obj rfl rfl hq hdg g
theorem tl_state (C : Cx X D B own cc ret hh nm post px rm) {i : Int32} {j : Nat} (hij : zix i j 2234) (hdg : decode cc pc = .ok (.iaload, 1)) (g : Z X (pc + 1) L (.int (st j) :: rest) (tw b t st bk sv iz th di re si pa fo te tl po ts to le nu ec ep wo) n0 k0) : Z X pc L (.int i :: .ref (t.1 1) :: rest) (tw b t st bk sv iz th di re si pa fo te tl po ts to le nu ec ep wo) n0 k0 := z_iald C tw_state (hij.vin (by decide)) hdg (by rw [hij.cl (by decide)]; exact g)
theorem ts_state (C : Cx X D B own cc ret hh nm post px rm) {i : Int32} {j : Nat} {x : Int32} (hij : zix i j 2234) (hdg : decode cc pc = .ok (.iastore, 1)) (g : Z X (pc + 1) L rest (tw b t (upd st j x) bk sv iz th di re si pa fo te tl po ts to le nu ec ep wo) n0 k0) : Z X pc L (.int x :: .int i :: .ref (t.1 1) :: rest) (tw b t st bk sv iz th di re si pa fo te tl po ts to le nu ec ep wo) n0 k0 := z_iast C tw_state (hij.vin (by decide)) hdg (by rw [hij.cl (by decide)]; exact z_heap (tu_state _) g)
theorem tg_backup (C : Cx X D B own cc ret hh nm post px rm) {index : Nat} (hq : Cond.fieldLink own index "TrackArrayModel" "backup" "[I" ∈ lw_all) (hdg : decode cc pc = .ok (.getfield index, 3)) (g : Z X (pc + 3) L (.ref (t.1 2) :: rest) (tw b t st bk sv iz th di re si pa fo te tl po ts to le nu ec ep wo) n0 k0) : Z X pc L (.ref (t.1 0) :: rest) (tw b t st bk sv iz th di re si pa fo te tl po ts to le nu ec ep wo) n0 k0 := z_getf (ci := 3) (k := 1) C tw_obj rfl rfl hq hdg g
theorem tl_backup (C : Cx X D B own cc ret hh nm post px rm) {i : Int32} {j : Nat} (hij : zix i j 2234) (hdg : decode cc pc = .ok (.iaload, 1)) (g : Z X (pc + 1) L (.int (bk j) :: rest) (tw b t st bk sv iz th di re si pa fo te tl po ts to le nu ec ep wo) n0 k0) : Z X pc L (.int i :: .ref (t.1 2) :: rest) (tw b t st bk sv iz th di re si pa fo te tl po ts to le nu ec ep wo) n0 k0 := z_iald C tw_backup (hij.vin (by decide)) hdg (by rw [hij.cl (by decide)]; exact g)
theorem ts_backup (C : Cx X D B own cc ret hh nm post px rm) {i : Int32} {j : Nat} {x : Int32} (hij : zix i j 2234) (hdg : decode cc pc = .ok (.iastore, 1)) (g : Z X (pc + 1) L rest (tw b t st (upd bk j x) sv iz th di re si pa fo te tl po ts to le nu ec ep wo) n0 k0) : Z X pc L (.int x :: .int i :: .ref (t.1 2) :: rest) (tw b t st bk sv iz th di re si pa fo te tl po ts to le nu ec ep wo) n0 k0 := z_iast C tw_backup (hij.vin (by decide)) hdg (by rw [hij.cl (by decide)]; exact z_heap (tu_backup _) g)
theorem tg_saved (C : Cx X D B own cc ret hh nm post px rm) {index : Nat} (hq : Cond.fieldLink own index "TrackArrayModel" "saved" "[I" ∈ lw_all) (hdg : decode cc pc = .ok (.getfield index, 3)) (g : Z X (pc + 3) L (.ref (t.1 3) :: rest) (tw b t st bk sv iz th di re si pa fo te tl po ts to le nu ec ep wo) n0 k0) : Z X pc L (.ref (t.1 0) :: rest) (tw b t st bk sv iz th di re si pa fo te tl po ts to le nu ec ep wo) n0 k0 := z_getf (ci := 3) (k := 2) C tw_obj rfl rfl hq hdg g
theorem tl_saved (C : Cx X D B own cc ret hh nm post px rm) {i : Int32} {j : Nat} (hij : zix i j 4468) (hdg : decode cc pc = .ok (.iaload, 1)) (g : Z X (pc + 1) L (.int (sv j) :: rest) (tw b t st bk sv iz th di re si pa fo te tl po ts to le nu ec ep wo) n0 k0) : Z X pc L (.int i :: .ref (t.1 3) :: rest) (tw b t st bk sv iz th di re si pa fo te tl po ts to le nu ec ep wo) n0 k0 := z_iald C tw_saved (hij.vin (by decide)) hdg (by rw [hij.cl (by decide)]; exact g)
theorem ts_saved (C : Cx X D B own cc ret hh nm post px rm) {i : Int32} {j : Nat} {x : Int32} (hij : zix i j 4468) (hdg : decode cc pc = .ok (.iastore, 1)) (g : Z X (pc + 1) L rest (tw b t st bk (upd sv j x) iz th di re si pa fo te tl po ts to le nu ec ep wo) n0 k0) : Z X pc L (.int x :: .int i :: .ref (t.1 3) :: rest) (tw b t st bk sv iz th di re si pa fo te tl po ts to le nu ec ep wo) n0 k0 := z_iast C tw_saved (hij.vin (by decide)) hdg (by rw [hij.cl (by decide)]; exact z_heap (tu_saved _) g)
theorem tg_isSaved (C : Cx X D B own cc ret hh nm post px rm) {index : Nat} (hq : Cond.fieldLink own index "TrackArrayModel" "isSaved" "[Z" ∈ lw_all) (hdg : decode cc pc = .ok (.getfield index, 3)) (g : Z X (pc + 3) L (.ref (t.1 4) :: rest) (tw b t st bk sv iz th di re si pa fo te tl po ts to le nu ec ep wo) n0 k0) : Z X pc L (.ref (t.1 0) :: rest) (tw b t st bk sv iz th di re si pa fo te tl po ts to le nu ec ep wo) n0 k0 := z_getf (ci := 3) (k := 3) C tw_obj rfl rfl hq hdg g
theorem tl_isSaved (C : Cx X D B own cc ret hh nm post px rm) {i : Int32} {j : Nat} (hij : zix i j 2) (hdg : decode cc pc = .ok (.baload, 1)) (g : Z X (pc + 1) L (.int (iz j) :: rest) (tw b t st bk sv iz th di re si pa fo te tl po ts to le nu ec ep wo) n0 k0) : Z X pc L (.int i :: .ref (t.1 4) :: rest) (tw b t st bk sv iz th di re si pa fo te tl po ts to le nu ec ep wo) n0 k0 := z_zald C tw_isSaved (hij.vin (by decide)) hdg (by rw [hij.cl (by decide)]; exact g)
theorem ts_isSaved (C : Cx X D B own cc ret hh nm post px rm) {i : Int32} {j : Nat} {x : Int32} {y : Int32} (hij : zix i j 2) (hy : vp_nar .boolean x = y) (hdg : decode cc pc = .ok (.bastore, 1)) (g : Z X (pc + 1) L rest (tw b t st bk sv (upd iz j y) th di re si pa fo te tl po ts to le nu ec ep wo) n0 k0) : Z X pc L (.int x :: .int i :: .ref (t.1 4) :: rest) (tw b t st bk sv iz th di re si pa fo te tl po ts to le nu ec ep wo) n0 k0 := z_zast C tw_isSaved (hij.vin (by decide)) hy hdg (by rw [hij.cl (by decide)]; exact z_heap (tu_isSaved _) g)
theorem tg_thrown (C : Cx X D B own cc ret hh nm post px rm) {index : Nat} (hq : Cond.fieldLink own index "TrackArrayModel" "thrown" "I" ∈ lw_all) (hdg : decode cc pc = .ok (.getfield index, 3)) (g : Z X (pc + 3) L (.int th :: rest) (tw b t st bk sv iz th di re si pa fo te tl po ts to le nu ec ep wo) n0 k0) : Z X pc L (.ref (t.1 0) :: rest) (tw b t st bk sv iz th di re si pa fo te tl po ts to le nu ec ep wo) n0 k0 := z_getf (ci := 3) (k := 4) C tw_obj rfl rfl hq hdg g
theorem tp_thrown (C : Cx X D B own cc ret hh nm post px rm) {index : Nat} {x : Int32} (hq : Cond.fieldLink own index "TrackArrayModel" "thrown" "I" ∈ lw_all) (hdg : decode cc pc = .ok (.putfield index, 3)) (g : Z X (pc + 3) L rest (tw b t st bk sv iz x di re si pa fo te tl po ts to le nu ec ep wo) n0 k0) : Z X pc L (.int x :: .ref (t.1 0) :: rest) (tw b t st bk sv iz th di re si pa fo te tl po ts to le nu ec ep wo) n0 k0 := z_putf (ci := 3) (k := 4) C tw_obj rfl (Nat.le_of_ble_eq_true rfl) (zfit_I x) hq hdg (z_heap (tu_thrown x) g)
theorem tg_distances (C : Cx X D B own cc ret hh nm post px rm) {index : Nat} (hq : Cond.fieldLink own index "TrackArrayModel" "distances" "[I" ∈ lw_all) (hdg : decode cc pc = .ok (.getfield index, 3)) (g : Z X (pc + 3) L (.ref (t.1 5) :: rest) (tw b t st bk sv iz th di re si pa fo te tl po ts to le nu ec ep wo) n0 k0) : Z X pc L (.ref (t.1 0) :: rest) (tw b t st bk sv iz th di re si pa fo te tl po ts to le nu ec ep wo) n0 k0 := z_getf (ci := 3) (k := 5) C tw_obj rfl rfl hq hdg g
theorem tl_distances (C : Cx X D B own cc ret hh nm post px rm) {i : Int32} {j : Nat} (hij : zix i j 256) (hdg : decode cc pc = .ok (.iaload, 1)) (g : Z X (pc + 1) L (.int (di j) :: rest) (tw b t st bk sv iz th di re si pa fo te tl po ts to le nu ec ep wo) n0 k0) : Z X pc L (.int i :: .ref (t.1 5) :: rest) (tw b t st bk sv iz th di re si pa fo te tl po ts to le nu ec ep wo) n0 k0 := z_iald C tw_distances (hij.vin (by decide)) hdg (by rw [hij.cl (by decide)]; exact g)
theorem ts_distances (C : Cx X D B own cc ret hh nm post px rm) {i : Int32} {j : Nat} {x : Int32} (hij : zix i j 256) (hdg : decode cc pc = .ok (.iastore, 1)) (g : Z X (pc + 1) L rest (tw b t st bk sv iz th (upd di j x) re si pa fo te tl po ts to le nu ec ep wo) n0 k0) : Z X pc L (.int x :: .int i :: .ref (t.1 5) :: rest) (tw b t st bk sv iz th di re si pa fo te tl po ts to le nu ec ep wo) n0 k0 := z_iast C tw_distances (hij.vin (by decide)) hdg (by rw [hij.cl (by decide)]; exact z_heap (tu_distances _) g)
theorem tg_reflections (C : Cx X D B own cc ret hh nm post px rm) {index : Nat} (hq : Cond.fieldLink own index "TrackArrayModel" "reflections" "[I" ∈ lw_all) (hdg : decode cc pc = .ok (.getfield index, 3)) (g : Z X (pc + 3) L (.ref (t.1 6) :: rest) (tw b t st bk sv iz th di re si pa fo te tl po ts to le nu ec ep wo) n0 k0) : Z X pc L (.ref (t.1 0) :: rest) (tw b t st bk sv iz th di re si pa fo te tl po ts to le nu ec ep wo) n0 k0 := z_getf (ci := 3) (k := 6) C tw_obj rfl rfl hq hdg g
theorem tl_reflections (C : Cx X D B own cc ret hh nm post px rm) {i : Int32} {j : Nat} (hij : zix i j 256) (hdg : decode cc pc = .ok (.iaload, 1)) (g : Z X (pc + 1) L (.int (re j) :: rest) (tw b t st bk sv iz th di re si pa fo te tl po ts to le nu ec ep wo) n0 k0) : Z X pc L (.int i :: .ref (t.1 6) :: rest) (tw b t st bk sv iz th di re si pa fo te tl po ts to le nu ec ep wo) n0 k0 := z_iald C tw_reflections (hij.vin (by decide)) hdg (by rw [hij.cl (by decide)]; exact g)
theorem ts_reflections (C : Cx X D B own cc ret hh nm post px rm) {i : Int32} {j : Nat} {x : Int32} (hij : zix i j 256) (hdg : decode cc pc = .ok (.iastore, 1)) (g : Z X (pc + 1) L rest (tw b t st bk sv iz th di (upd re j x) si pa fo te tl po ts to le nu ec ep wo) n0 k0) : Z X pc L (.int x :: .int i :: .ref (t.1 6) :: rest) (tw b t st bk sv iz th di re si pa fo te tl po ts to le nu ec ep wo) n0 k0 := z_iast C tw_reflections (hij.vin (by decide)) hdg (by rw [hij.cl (by decide)]; exact z_heap (tu_reflections _) g)
theorem tg_signal (C : Cx X D B own cc ret hh nm post px rm) {index : Nat} (hq : Cond.fieldLink own index "TrackArrayModel" "signal" "[I" ∈ lw_all) (hdg : decode cc pc = .ok (.getfield index, 3)) (g : Z X (pc + 3) L (.ref (t.1 7) :: rest) (tw b t st bk sv iz th di re si pa fo te tl po ts to le nu ec ep wo) n0 k0) : Z X pc L (.ref (t.1 0) :: rest) (tw b t st bk sv iz th di re si pa fo te tl po ts to le nu ec ep wo) n0 k0 := z_getf (ci := 3) (k := 7) C tw_obj rfl rfl hq hdg g
theorem tl_signal (C : Cx X D B own cc ret hh nm post px rm) {i : Int32} {j : Nat} (hij : zix i j 256) (hdg : decode cc pc = .ok (.iaload, 1)) (g : Z X (pc + 1) L (.int (si j) :: rest) (tw b t st bk sv iz th di re si pa fo te tl po ts to le nu ec ep wo) n0 k0) : Z X pc L (.int i :: .ref (t.1 7) :: rest) (tw b t st bk sv iz th di re si pa fo te tl po ts to le nu ec ep wo) n0 k0 := z_iald C tw_signal (hij.vin (by decide)) hdg (by rw [hij.cl (by decide)]; exact g)
theorem ts_signal (C : Cx X D B own cc ret hh nm post px rm) {i : Int32} {j : Nat} {x : Int32} (hij : zix i j 256) (hdg : decode cc pc = .ok (.iastore, 1)) (g : Z X (pc + 1) L rest (tw b t st bk sv iz th di re (upd si j x) pa fo te tl po ts to le nu ec ep wo) n0 k0) : Z X pc L (.int x :: .int i :: .ref (t.1 7) :: rest) (tw b t st bk sv iz th di re si pa fo te tl po ts to le nu ec ep wo) n0 k0 := z_iast C tw_signal (hij.vin (by decide)) hdg (by rw [hij.cl (by decide)]; exact z_heap (tu_signal _) g)
theorem tg_parts (C : Cx X D B own cc ret hh nm post px rm) {index : Nat} (hq : Cond.fieldLink own index "TrackArrayModel" "parts" "[I" ∈ lw_all) (hdg : decode cc pc = .ok (.getfield index, 3)) (g : Z X (pc + 3) L (.ref (t.1 8) :: rest) (tw b t st bk sv iz th di re si pa fo te tl po ts to le nu ec ep wo) n0 k0) : Z X pc L (.ref (t.1 0) :: rest) (tw b t st bk sv iz th di re si pa fo te tl po ts to le nu ec ep wo) n0 k0 := z_getf (ci := 3) (k := 8) C tw_obj rfl rfl hq hdg g
theorem tl_parts (C : Cx X D B own cc ret hh nm post px rm) {i : Int32} {j : Nat} (hij : zix i j 256) (hdg : decode cc pc = .ok (.iaload, 1)) (g : Z X (pc + 1) L (.int (pa j) :: rest) (tw b t st bk sv iz th di re si pa fo te tl po ts to le nu ec ep wo) n0 k0) : Z X pc L (.int i :: .ref (t.1 8) :: rest) (tw b t st bk sv iz th di re si pa fo te tl po ts to le nu ec ep wo) n0 k0 := z_iald C tw_parts (hij.vin (by decide)) hdg (by rw [hij.cl (by decide)]; exact g)
theorem ts_parts (C : Cx X D B own cc ret hh nm post px rm) {i : Int32} {j : Nat} {x : Int32} (hij : zix i j 256) (hdg : decode cc pc = .ok (.iastore, 1)) (g : Z X (pc + 1) L rest (tw b t st bk sv iz th di re si (upd pa j x) fo te tl po ts to le nu ec ep wo) n0 k0) : Z X pc L (.int x :: .int i :: .ref (t.1 8) :: rest) (tw b t st bk sv iz th di re si pa fo te tl po ts to le nu ec ep wo) n0 k0 := z_iast C tw_parts (hij.vin (by decide)) hdg (by rw [hij.cl (by decide)]; exact z_heap (tu_parts _) g)
theorem tg_folded (C : Cx X D B own cc ret hh nm post px rm) {index : Nat} (hq : Cond.fieldLink own index "TrackArrayModel" "folded" "[J" ∈ lw_all) (hdg : decode cc pc = .ok (.getfield index, 3)) (g : Z X (pc + 3) L (.ref (t.1 9) :: rest) (tw b t st bk sv iz th di re si pa fo te tl po ts to le nu ec ep wo) n0 k0) : Z X pc L (.ref (t.1 0) :: rest) (tw b t st bk sv iz th di re si pa fo te tl po ts to le nu ec ep wo) n0 k0 := z_getf (ci := 3) (k := 9) C tw_obj rfl rfl hq hdg g
theorem tl_folded (C : Cx X D B own cc ret hh nm post px rm) {i : Int32} {j : Nat} (hij : zix i j 64) (hdg : decode cc pc = .ok (.laload, 1)) (g : Z X (pc + 1) L (.long (fo j) :: rest) (tw b t st bk sv iz th di re si pa fo te tl po ts to le nu ec ep wo) n0 k0) : Z X pc L (.int i :: .ref (t.1 9) :: rest) (tw b t st bk sv iz th di re si pa fo te tl po ts to le nu ec ep wo) n0 k0 := z_lald C tw_folded (hij.vin (by decide)) hdg (by rw [hij.cl (by decide)]; exact g)
theorem ts_folded (C : Cx X D B own cc ret hh nm post px rm) {i : Int32} {j : Nat} {x : Int64} (hij : zix i j 64) (hdg : decode cc pc = .ok (.lastore, 1)) (g : Z X (pc + 1) L rest (tw b t st bk sv iz th di re si pa (vp_updL fo j x) te tl po ts to le nu ec ep wo) n0 k0) : Z X pc L (.long x :: .int i :: .ref (t.1 9) :: rest) (tw b t st bk sv iz th di re si pa fo te tl po ts to le nu ec ep wo) n0 k0 := z_last C tw_folded (hij.vin (by decide)) hdg (by rw [hij.cl (by decide)]; exact z_heap (tu_folded _) g)
theorem tg_text (C : Cx X D B own cc ret hh nm post px rm) {index : Nat} (hq : Cond.fieldLink own index "TrackArrayModel" "text" "[I" ∈ lw_all) (hdg : decode cc pc = .ok (.getfield index, 3)) (g : Z X (pc + 3) L (.ref (t.1 10) :: rest) (tw b t st bk sv iz th di re si pa fo te tl po ts to le nu ec ep wo) n0 k0) : Z X pc L (.ref (t.1 0) :: rest) (tw b t st bk sv iz th di re si pa fo te tl po ts to le nu ec ep wo) n0 k0 := z_getf (ci := 3) (k := 10) C tw_obj rfl rfl hq hdg g
theorem tl_text (C : Cx X D B own cc ret hh nm post px rm) {i : Int32} {j : Nat} (hij : zix i j 500) (hdg : decode cc pc = .ok (.iaload, 1)) (g : Z X (pc + 1) L (.int (te j) :: rest) (tw b t st bk sv iz th di re si pa fo te tl po ts to le nu ec ep wo) n0 k0) : Z X pc L (.int i :: .ref (t.1 10) :: rest) (tw b t st bk sv iz th di re si pa fo te tl po ts to le nu ec ep wo) n0 k0 := z_iald C tw_text (hij.vin (by decide)) hdg (by rw [hij.cl (by decide)]; exact g)
theorem ts_text (C : Cx X D B own cc ret hh nm post px rm) {i : Int32} {j : Nat} {x : Int32} (hij : zix i j 500) (hdg : decode cc pc = .ok (.iastore, 1)) (g : Z X (pc + 1) L rest (tw b t st bk sv iz th di re si pa fo (upd te j x) tl po ts to le nu ec ep wo) n0 k0) : Z X pc L (.int x :: .int i :: .ref (t.1 10) :: rest) (tw b t st bk sv iz th di re si pa fo te tl po ts to le nu ec ep wo) n0 k0 := z_iast C tw_text (hij.vin (by decide)) hdg (by rw [hij.cl (by decide)]; exact z_heap (tu_text _) g)
theorem tg_textLength (C : Cx X D B own cc ret hh nm post px rm) {index : Nat} (hq : Cond.fieldLink own index "TrackArrayModel" "textLength" "I" ∈ lw_all) (hdg : decode cc pc = .ok (.getfield index, 3)) (g : Z X (pc + 3) L (.int tl :: rest) (tw b t st bk sv iz th di re si pa fo te tl po ts to le nu ec ep wo) n0 k0) : Z X pc L (.ref (t.1 0) :: rest) (tw b t st bk sv iz th di re si pa fo te tl po ts to le nu ec ep wo) n0 k0 := z_getf (ci := 3) (k := 11) C tw_obj rfl rfl hq hdg g
theorem tp_textLength (C : Cx X D B own cc ret hh nm post px rm) {index : Nat} {x : Int32} (hq : Cond.fieldLink own index "TrackArrayModel" "textLength" "I" ∈ lw_all) (hdg : decode cc pc = .ok (.putfield index, 3)) (g : Z X (pc + 3) L rest (tw b t st bk sv iz th di re si pa fo te x po ts to le nu ec ep wo) n0 k0) : Z X pc L (.int x :: .ref (t.1 0) :: rest) (tw b t st bk sv iz th di re si pa fo te tl po ts to le nu ec ep wo) n0 k0 := z_putf (ci := 3) (k := 11) C tw_obj rfl (Nat.le_of_ble_eq_true rfl) (zfit_I x) hq hdg (z_heap (tu_textLength x) g)
theorem tg_position (C : Cx X D B own cc ret hh nm post px rm) {index : Nat} (hq : Cond.fieldLink own index "TrackArrayModel" "position" "I" ∈ lw_all) (hdg : decode cc pc = .ok (.getfield index, 3)) (g : Z X (pc + 3) L (.int po :: rest) (tw b t st bk sv iz th di re si pa fo te tl po ts to le nu ec ep wo) n0 k0) : Z X pc L (.ref (t.1 0) :: rest) (tw b t st bk sv iz th di re si pa fo te tl po ts to le nu ec ep wo) n0 k0 := z_getf (ci := 3) (k := 12) C tw_obj rfl rfl hq hdg g
theorem tp_position (C : Cx X D B own cc ret hh nm post px rm) {index : Nat} {x : Int32} (hq : Cond.fieldLink own index "TrackArrayModel" "position" "I" ∈ lw_all) (hdg : decode cc pc = .ok (.putfield index, 3)) (g : Z X (pc + 3) L rest (tw b t st bk sv iz th di re si pa fo te tl x ts to le nu ec ep wo) n0 k0) : Z X pc L (.int x :: .ref (t.1 0) :: rest) (tw b t st bk sv iz th di re si pa fo te tl po ts to le nu ec ep wo) n0 k0 := z_putf (ci := 3) (k := 12) C tw_obj rfl (Nat.le_of_ble_eq_true rfl) (zfit_I x) hq hdg (z_heap (tu_position x) g)
theorem tg_tokenStart (C : Cx X D B own cc ret hh nm post px rm) {index : Nat} (hq : Cond.fieldLink own index "TrackArrayModel" "tokenStart" "I" ∈ lw_all) (hdg : decode cc pc = .ok (.getfield index, 3)) (g : Z X (pc + 3) L (.int ts :: rest) (tw b t st bk sv iz th di re si pa fo te tl po ts to le nu ec ep wo) n0 k0) : Z X pc L (.ref (t.1 0) :: rest) (tw b t st bk sv iz th di re si pa fo te tl po ts to le nu ec ep wo) n0 k0 := z_getf (ci := 3) (k := 13) C tw_obj rfl rfl hq hdg g
theorem tp_tokenStart (C : Cx X D B own cc ret hh nm post px rm) {index : Nat} {x : Int32} (hq : Cond.fieldLink own index "TrackArrayModel" "tokenStart" "I" ∈ lw_all) (hdg : decode cc pc = .ok (.putfield index, 3)) (g : Z X (pc + 3) L rest (tw b t st bk sv iz th di re si pa fo te tl po x to le nu ec ep wo) n0 k0) : Z X pc L (.int x :: .ref (t.1 0) :: rest) (tw b t st bk sv iz th di re si pa fo te tl po ts to le nu ec ep wo) n0 k0 := z_putf (ci := 3) (k := 13) C tw_obj rfl (Nat.le_of_ble_eq_true rfl) (zfit_I x) hq hdg (z_heap (tu_tokenStart x) g)
theorem tg_token (C : Cx X D B own cc ret hh nm post px rm) {index : Nat} (hq : Cond.fieldLink own index "TrackArrayModel" "token" "I" ∈ lw_all) (hdg : decode cc pc = .ok (.getfield index, 3)) (g : Z X (pc + 3) L (.int to :: rest) (tw b t st bk sv iz th di re si pa fo te tl po ts to le nu ec ep wo) n0 k0) : Z X pc L (.ref (t.1 0) :: rest) (tw b t st bk sv iz th di re si pa fo te tl po ts to le nu ec ep wo) n0 k0 := z_getf (ci := 3) (k := 14) C tw_obj rfl rfl hq hdg g
theorem tp_token (C : Cx X D B own cc ret hh nm post px rm) {index : Nat} {x : Int32} (hq : Cond.fieldLink own index "TrackArrayModel" "token" "I" ∈ lw_all) (hdg : decode cc pc = .ok (.putfield index, 3)) (g : Z X (pc + 3) L rest (tw b t st bk sv iz th di re si pa fo te tl po ts x le nu ec ep wo) n0 k0) : Z X pc L (.int x :: .ref (t.1 0) :: rest) (tw b t st bk sv iz th di re si pa fo te tl po ts to le nu ec ep wo) n0 k0 := z_putf (ci := 3) (k := 14) C tw_obj rfl (Nat.le_of_ble_eq_true rfl) (zfit_I x) hq hdg (z_heap (tu_token x) g)
theorem tg_letters (C : Cx X D B own cc ret hh nm post px rm) {index : Nat} (hq : Cond.fieldLink own index "TrackArrayModel" "letters" "I" ∈ lw_all) (hdg : decode cc pc = .ok (.getfield index, 3)) (g : Z X (pc + 3) L (.int le :: rest) (tw b t st bk sv iz th di re si pa fo te tl po ts to le nu ec ep wo) n0 k0) : Z X pc L (.ref (t.1 0) :: rest) (tw b t st bk sv iz th di re si pa fo te tl po ts to le nu ec ep wo) n0 k0 := z_getf (ci := 3) (k := 15) C tw_obj rfl rfl hq hdg g
theorem tp_letters (C : Cx X D B own cc ret hh nm post px rm) {index : Nat} {x : Int32} (hq : Cond.fieldLink own index "TrackArrayModel" "letters" "I" ∈ lw_all) (hdg : decode cc pc = .ok (.putfield index, 3)) (g : Z X (pc + 3) L rest (tw b t st bk sv iz th di re si pa fo te tl po ts to x nu ec ep wo) n0 k0) : Z X pc L (.int x :: .ref (t.1 0) :: rest) (tw b t st bk sv iz th di re si pa fo te tl po ts to le nu ec ep wo) n0 k0 := z_putf (ci := 3) (k := 15) C tw_obj rfl (Nat.le_of_ble_eq_true rfl) (zfit_I x) hq hdg (z_heap (tu_letters x) g)
theorem tg_number (C : Cx X D B own cc ret hh nm post px rm) {index : Nat} (hq : Cond.fieldLink own index "TrackArrayModel" "number" "I" ∈ lw_all) (hdg : decode cc pc = .ok (.getfield index, 3)) (g : Z X (pc + 3) L (.int nu :: rest) (tw b t st bk sv iz th di re si pa fo te tl po ts to le nu ec ep wo) n0 k0) : Z X pc L (.ref (t.1 0) :: rest) (tw b t st bk sv iz th di re si pa fo te tl po ts to le nu ec ep wo) n0 k0 := z_getf (ci := 3) (k := 16) C tw_obj rfl rfl hq hdg g
theorem tp_number (C : Cx X D B own cc ret hh nm post px rm) {index : Nat} {x : Int32} (hq : Cond.fieldLink own index "TrackArrayModel" "number" "I" ∈ lw_all) (hdg : decode cc pc = .ok (.putfield index, 3)) (g : Z X (pc + 3) L rest (tw b t st bk sv iz th di re si pa fo te tl po ts to le x ec ep wo) n0 k0) : Z X pc L (.int x :: .ref (t.1 0) :: rest) (tw b t st bk sv iz th di re si pa fo te tl po ts to le nu ec ep wo) n0 k0 := z_putf (ci := 3) (k := 16) C tw_obj rfl (Nat.le_of_ble_eq_true rfl) (zfit_I x) hq hdg (z_heap (tu_number x) g)
theorem tg_errorCode (C : Cx X D B own cc ret hh nm post px rm) {index : Nat} (hq : Cond.fieldLink own index "TrackArrayModel" "errorCode" "I" ∈ lw_all) (hdg : decode cc pc = .ok (.getfield index, 3)) (g : Z X (pc + 3) L (.int ec :: rest) (tw b t st bk sv iz th di re si pa fo te tl po ts to le nu ec ep wo) n0 k0) : Z X pc L (.ref (t.1 0) :: rest) (tw b t st bk sv iz th di re si pa fo te tl po ts to le nu ec ep wo) n0 k0 := z_getf (ci := 3) (k := 17) C tw_obj rfl rfl hq hdg g
theorem tp_errorCode (C : Cx X D B own cc ret hh nm post px rm) {index : Nat} {x : Int32} (hq : Cond.fieldLink own index "TrackArrayModel" "errorCode" "I" ∈ lw_all) (hdg : decode cc pc = .ok (.putfield index, 3)) (g : Z X (pc + 3) L rest (tw b t st bk sv iz th di re si pa fo te tl po ts to le nu x ep wo) n0 k0) : Z X pc L (.int x :: .ref (t.1 0) :: rest) (tw b t st bk sv iz th di re si pa fo te tl po ts to le nu ec ep wo) n0 k0 := z_putf (ci := 3) (k := 17) C tw_obj rfl (Nat.le_of_ble_eq_true rfl) (zfit_I x) hq hdg (z_heap (tu_errorCode x) g)
theorem tg_errorPosition (C : Cx X D B own cc ret hh nm post px rm) {index : Nat} (hq : Cond.fieldLink own index "TrackArrayModel" "errorPosition" "I" ∈ lw_all) (hdg : decode cc pc = .ok (.getfield index, 3)) (g : Z X (pc + 3) L (.int ep :: rest) (tw b t st bk sv iz th di re si pa fo te tl po ts to le nu ec ep wo) n0 k0) : Z X pc L (.ref (t.1 0) :: rest) (tw b t st bk sv iz th di re si pa fo te tl po ts to le nu ec ep wo) n0 k0 := z_getf (ci := 3) (k := 18) C tw_obj rfl rfl hq hdg g
theorem tp_errorPosition (C : Cx X D B own cc ret hh nm post px rm) {index : Nat} {x : Int32} (hq : Cond.fieldLink own index "TrackArrayModel" "errorPosition" "I" ∈ lw_all) (hdg : decode cc pc = .ok (.putfield index, 3)) (g : Z X (pc + 3) L rest (tw b t st bk sv iz th di re si pa fo te tl po ts to le nu ec x wo) n0 k0) : Z X pc L (.int x :: .ref (t.1 0) :: rest) (tw b t st bk sv iz th di re si pa fo te tl po ts to le nu ec ep wo) n0 k0 := z_putf (ci := 3) (k := 18) C tw_obj rfl (Nat.le_of_ble_eq_true rfl) (zfit_I x) hq hdg (z_heap (tu_errorPosition x) g)
theorem tg_word (C : Cx X D B own cc ret hh nm post px rm) {index : Nat} (hq : Cond.fieldLink own index "TrackArrayModel" "word" "J" ∈ lw_all) (hdg : decode cc pc = .ok (.getfield index, 3)) (g : Z X (pc + 3) L (.long wo :: rest) (tw b t st bk sv iz th di re si pa fo te tl po ts to le nu ec ep wo) n0 k0) : Z X pc L (.ref (t.1 0) :: rest) (tw b t st bk sv iz th di re si pa fo te tl po ts to le nu ec ep wo) n0 k0 := z_getf (ci := 3) (k := 19) C tw_obj rfl rfl hq hdg g
theorem tp_word (C : Cx X D B own cc ret hh nm post px rm) {index : Nat} {x : Int64} (hq : Cond.fieldLink own index "TrackArrayModel" "word" "J" ∈ lw_all) (hdg : decode cc pc = .ok (.putfield index, 3)) (g : Z X (pc + 3) L rest (tw b t st bk sv iz th di re si pa fo te tl po ts to le nu ec ep x) n0 k0) : Z X pc L (.long x :: .ref (t.1 0) :: rest) (tw b t st bk sv iz th di re si pa fo te tl po ts to le nu ec ep wo) n0 k0 := z_putf (ci := 3) (k := 19) C tw_obj rfl (Nat.le_of_ble_eq_true rfl) (zfit_J x) hq hdg (z_heap (tu_word x) g)
end TW
section ZJ
variable {X : zX} {D : zG} {B : Nat} {own : String} {cc : ByteArray} {ret : Option FieldType} {hh : List (Nat × Nat × Nat × Nat)} {nm : String} {post : Option Value → zH → Prop} {px : String → Nat → zH → Prop} {rm : Room} {pc : Nat} {L : zLs} {rest : List Value} {G : zH} {n0 k0 : Nat}
theorem zixI {i : Int32} {j n : Nat} (h1 : i = nI j) (h2 : j < n) : zix i j n := ⟨h1, h2⟩
theorem zj_iald (C : Cx X D B own cc ret hh nm post px rm) {a n j : Nat} {f : Nat → Int32} {i : Int32} (hg : G a = some (.inl (0, n, .inl f))) (hij : zix i j n) (hn : n < 2 ^ 31) (hdg : decode cc pc = .ok (.iaload, 1)) (g : Z X (pc + 1) L (.int (f j) :: rest) G n0 k0) : Z X pc L (.int i :: .ref a :: rest) G n0 k0 := z_iald C hg (hij.vin hn) hdg (by rw [hij.cl hn]; exact g)
theorem zj_bald (C : Cx X D B own cc ret hh nm post px rm) {a n j : Nat} {f : Nat → Int32} {i : Int32} (hg : G a = some (.inl (2, n, .inl f))) (hij : zix i j n) (hn : n < 2 ^ 31) (hdg : decode cc pc = .ok (.baload, 1)) (g : Z X (pc + 1) L (.int (f j) :: rest) G n0 k0) : Z X pc L (.int i :: .ref a :: rest) G n0 k0 := z_bald C hg (hij.vin hn) hdg (by rw [hij.cl hn]; exact g)
theorem zj_lald (C : Cx X D B own cc ret hh nm post px rm) {a n j : Nat} {f : Nat → Int64} {i : Int32} (hg : G a = some (.inl (1, n, .inr (.inl f)))) (hij : zix i j n) (hn : n < 2 ^ 31) (hdg : decode cc pc = .ok (.laload, 1)) (g : Z X (pc + 1) L (.long (f j) :: rest) G n0 k0) : Z X pc L (.int i :: .ref a :: rest) G n0 k0 := z_lald C hg (hij.vin hn) hdg (by rw [hij.cl hn]; exact g)
theorem zj_aald (C : Cx X D B own cc ret hh nm post px rm) {a n t j : Nat} {f : Nat → Option Nat} {i : Int32} {C0 : String} (hg : G a = some (.inl (t, n, .inr (.inr (.inr (.inr f)))))) (ht : zTY[t]? = some (.object C0)) (hij : zix i j n) (hn : n < 2 ^ 31) (hdg : decode cc pc = .ok (.aaload, 1)) (g : Z X (pc + 1) L (va_rf (f j) :: rest) G n0 k0) : Z X pc L (.int i :: .ref a :: rest) G n0 k0 := z_aald C hg ht (hij.vin hn) hdg (by rw [hij.cl hn]; exact g)
theorem zj_iast (C : Cx X D B own cc ret hh nm post px rm) {a n j : Nat} {f : Nat → Int32} {i x : Int32} (hg : G a = some (.inl (0, n, .inl f))) (hij : zix i j n) (hn : n < 2 ^ 31) (hdg : decode cc pc = .ok (.iastore, 1)) (g : Z X (pc + 1) L rest (zup G a (.inl (0, n, .inl (upd f j x)))) n0 k0) : Z X pc L (.int x :: .int i :: .ref a :: rest) G n0 k0 := z_iast C hg (hij.vin hn) hdg (by rw [hij.cl hn]; exact g)
theorem zj_bast (C : Cx X D B own cc ret hh nm post px rm) {a n j : Nat} {f : Nat → Int32} {i x y : Int32} (hg : G a = some (.inl (2, n, .inl f))) (hij : zix i j n) (hn : n < 2 ^ 31) (hy : vp_nar .byte x = y) (hdg : decode cc pc = .ok (.bastore, 1)) (g : Z X (pc + 1) L rest (zup G a (.inl (2, n, .inl (upd f j y)))) n0 k0) : Z X pc L (.int x :: .int i :: .ref a :: rest) G n0 k0 := z_bast C hg (hij.vin hn) hy hdg (by rw [hij.cl hn]; exact g)
theorem zj_last (C : Cx X D B own cc ret hh nm post px rm) {a n j : Nat} {f : Nat → Int64} {i : Int32} {x : Int64} (hg : G a = some (.inl (1, n, .inr (.inl f)))) (hij : zix i j n) (hn : n < 2 ^ 31) (hdg : decode cc pc = .ok (.lastore, 1)) (g : Z X (pc + 1) L rest (zup G a (.inl (1, n, .inr (.inl (vp_updL f j x))))) n0 k0) : Z X pc L (.long x :: .int i :: .ref a :: rest) G n0 k0 := z_last C hg (hij.vin hn) hdg (by rw [hij.cl hn]; exact g)
theorem z_convG {L' : zLs} {st : List Value} {n1 k1 : Nat} (g : Z X pc L' st G n1 k1) (hs : zsub L' L) (hn : n0 ≤ n1) (hk : k0 ≤ k1) : Z X pc L st G n0 k0 := z_conv hs hn hk g
end ZJ
