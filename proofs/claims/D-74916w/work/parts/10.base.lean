/-! BASE: one abstract heap (a partial map from addresses to contents), one judgement Z for a method's walk, one contract form Ct. Own work over the kit's rows. -/
set_option maxRecDepth 100000
abbrev zE : Type := (Nat × vp_A) ⊕ (Nat × List Value)
abbrev zH : Type := Nat → Option zE
/-- geometry: class ids, field slots, array class ids, addresses of constants (strings, their bytes, enum constants) -/
abbrev zG : Type := (Nat → ClassId) × (Nat → Nat → Nat) × (Nat → ClassId) × (Nat → Nat)
def zup (h : zH) (a : Nat) (e : zE) : zH := fun q => if q = a then some e else h q
theorem zup_s {h : zH} {a : Nat} {e : zE} : zup h a e a = some e := if_pos rfl
theorem zup_n {h : zH} {a b : Nat} {e : zE} (n : b ≠ a) : zup h a e b = h b := if_neg n
def zCL : List vw_C := [(RX1, TX1, 6), (RX2, TX2, 13), (RX3, TX3, 3), (RX4, TX4, 20), (RX5, TX5, 3), (RX6, TX6, 6), (RX7, TX7, 5), (RX8, TX8, 3), (RX11, TX11, 1), (RX12, TX12, 8), (RX14, TX14, 7), (RX15, TX15, 7), (RX16, TX16, 7), (RJ2, TJ2, 3), (RJ22, TJ22, 4), (RJ8, TJ8, 4), (RJ9, TJ9, 4)]
def zTY : List FieldType := [.int, .long, .byte, .boolean, .double, .object "java/lang/Object", .object "TrackArray$Track", .object "TrackArray$Measure"]
def zTYS (D : zG) : List (ClassId × FieldType) := (zTY.zipIdx).map fun q => (D.2.2.1 q.2, q.1)
def z_at (D : zG) (a : Nat) (e : zE) (H : Heap) : Prop := match e with
  | .inl x => H[a]? = some (vp_cell (D.2.2.1 x.1) x.2)
  | .inr o => if o.1 < 100 then va_at (D.1, D.2.1) zCL (a, .inr o) H else H[a]? = some { cls := D.1 o.1, slots := o.2.toArray, vm := .none }
theorem z_at.kept {D : zG} {a : Nat} {e : zE} {H H1 : Heap} (h : z_at D a e H) (hq : H1[a]? = H[a]?) : z_at D a e H1 := by
  cases e with
  | inl x => exact hq.trans h
  | inr o =>
    unfold z_at at h ⊢
    dsimp only at h ⊢
    split at h
    · next q => rw [if_pos q]; exact va_at.kept (q := (a, .inr o)) h hq
    · next q => rw [if_neg q]; exact hq.trans h
theorem z_at.lt {D : zG} {a : Nat} {e : zE} {H : Heap} (h : z_at D a e H) : a < H.size := by
  cases e with
  | inl x => exact (Array.getElem?_eq_some_iff.mp h).1
  | inr o =>
    unfold z_at at h
    dsimp only at h
    split at h
    · exact va_at.lt (q := (a, .inr o)) h
    · exact (Array.getElem?_eq_some_iff.mp h).1
/-- the heap holds h, all of it at B or above -/
def zI (D : zG) (B : Nat) (h : zH) (H : Heap) : Prop := B ≤ H.size ∧ ∀ a e, h a = some e → B ≤ a ∧ z_at D a e H
abbrev zA (B : Nat) : Nat → Prop := fun q => B ≤ q
theorem zI.at {D : zG} {B : Nat} {h : zH} {H : Heap} (hI : zI D B h H) {a : Nat} {e : zE} (hr : h a = some e) : z_at D a e H := (hI.2 a e hr).2
/-- one cell changed -/
theorem zI.put {D : zG} {B : Nat} {h : zH} {H H1 : Heap} (hI : zI D B h H) {a : Nat} {e0 e : zE} (ha : h a = some e0) (he : z_at D a e H1) (hz : H1.size = H.size) (oq : ∀ q : Nat, q ≠ a → H1[q]? = H[q]?) : zI D B (zup h a e) H1 := by
  have hB := (hI.2 a e0 ha).1
  refine ⟨by rw [hz]; exact hI.1, fun b x hb => ?_⟩
  by_cases hq : b = a
  · subst hq
    rw [zup_s] at hb
    cases hb
    exact ⟨hB, he⟩
  · rw [zup_n hq] at hb
    exact ⟨(hI.2 b x hb).1, (hI.2 b x hb).2.kept (oq b hq)⟩
/-- one cell more -/
theorem zI.push {D : zG} {B : Nat} {h : zH} {H H1 : Heap} (hI : zI D B h H) {e : zE} (he : z_at D H.size e H1) (hz : H1.size = H.size + 1) (oq : ∀ q : Nat, q < H.size → H1[q]? = H[q]?) : h H.size = none ∧ zI D B (zup h H.size e) H1 := by
  refine ⟨?_, by rw [hz]; exact Nat.le_succ_of_le hI.1, fun b x hb => ?_⟩
  · cases hc : h H.size with
    | none => rfl
    | some e1 => exact absurd (hI.2 _ _ hc).2.lt (Nat.lt_irrefl _)
  · by_cases hq : b = H.size
    · subst hq
      rw [zup_s] at hb
      cases hb
      exact ⟨hI.1, he⟩
    · rw [zup_n hq] at hb
      have h1 := hI.2 b x hb
      exact ⟨h1.1, h1.2.kept (oq b h1.2.lt)⟩
/-! locals: a list by places, 'none' where nothing is known -/
abbrev zLs : Type := List (Option Value)
def zc2 : Option Value → Bool
  | some (.long _) => true
  | some (.double _) => true
  | _ => false
theorem zc2_cat {v : Value} : zc2 (some v) = true ↔ v.category = 2 := by cases v <;> simp [zc2, Value.category]
/-- the place ahead holds no long -/
def zok (L : zLs) : Nat → Bool
  | 0 => true
  | i + 1 => !(zc2 (L.getD i none))
def zs1 (L : zLs) (i : Nat) (v : Value) : zLs := L.set i (some v)
def zs2 (L : zLs) (i : Nat) (v : Value) : zLs := (L.set i (some v)).set (i + 1) none
def zL (nL : Nat) (L : zLs) (ls : Array Slot) : Prop := L.length = nL ∧ ls.size = nL ∧ lv_wf ls ∧ ∀ (i : Nat) (v : Value), L[i]? = some (some v) → ls[i]? = some (Slot.val v)
theorem zL.at {nL : Nat} {L : zLs} {ls : Array Slot} (h : zL nL L ls) {i : Nat} {v : Value} (hi : L[i]? = some (some v)) : ls[i]? = some (.val v) := h.2.2.2 i v hi
def zpairs (L : zLs) : List (Nat × Value) := L.zipIdx.filterMap fun q => q.1.map fun v => (q.2, v)
theorem zpairs_mem {L : zLs} {i : Nat} {v : Value} : (i, v) ∈ zpairs L ↔ L[i]? = some (some v) := by
  unfold zpairs
  rw [List.mem_filterMap]
  constructor
  · rintro ⟨⟨o, j⟩, h1, h2⟩
    cases o with
    | none => cases h2
    | some w =>
      cases h2
      exact List.mem_zipIdx_iff_getElem?.mp h1
  · intro h
    exact ⟨(some v, i), List.mem_zipIdx_iff_getElem?.mpr h, rfl⟩
theorem zL.has {nL : Nat} {L : zLs} {ls : Array Slot} (h : zL nL L ls) : lv_has ls nL (zpairs L) := ⟨h.2.1, h.2.2.1, fun q hq => h.2.2.2 q.1 q.2 (zpairs_mem.mp hq)⟩
theorem zok_at {L : zLs} {i j : Nat} {v : Value} (hk : zok L i = true) (h : L[j]? = some (some v)) : ¬ (j + 1 = i ∧ v.category = 2) := by
  rintro ⟨rfl, q⟩
  have hk : (!(zc2 (L.getD j none))) = true := hk
  rw [List.getD_eq_getElem?_getD, h, Option.getD_some, zc2_cat.mpr q] at hk
  cases hk
theorem zL.s1 {nL i : Nat} {L : zLs} {ls ls' : Array Slot} {v : Value} (h : zL nL L ls) (hk : zok L i = true) (h' : lv_has ls' nL ((i, v) :: (zpairs L).filter (fun q => !(q.1 == i) && !(q.1 + 1 == i && q.2.category == 2)))) : zL nL (zs1 L i v) ls' := by
  refine ⟨by unfold zs1; rw [List.length_set]; exact h.1, h'.1, h'.2.1, fun j w hj => ?_⟩
  unfold zs1 at hj
  rw [List.getElem?_set] at hj
  split at hj
  · next he =>
    subst he
    split at hj
    · cases hj
      exact h'.2.2 (i, v) List.mem_cons_self
    · cases hj
  · next he =>
    have h2 := zok_at hk hj
    refine h'.2.2 (j, w) (List.mem_cons_of_mem _ (List.mem_filter.mpr ⟨zpairs_mem.mpr hj, ?_⟩))
    simp only [Bool.and_eq_true, Bool.not_eq_true', beq_eq_false_iff_ne, ne_eq, Bool.and_eq_false_imp, beq_iff_eq]
    exact ⟨fun q => he q.symm, fun q1 => fun q2 => h2 ⟨q1, q2⟩⟩
theorem zL.s2 {nL i : Nat} {L : zLs} {ls ls' : Array Slot} {v : Value} (h : zL nL L ls) (hk : zok L i = true) (h' : lv_has ls' nL ((i, v) :: (zpairs L).filter (fun q => !(q.1 == i) && (!(q.1 == i + 1) && !(q.1 + 1 == i && q.2.category == 2))))) : zL nL (zs2 L i v) ls' := by
  refine ⟨by unfold zs2; rw [List.length_set, List.length_set]; exact h.1, h'.1, h'.2.1, fun j w hj => ?_⟩
  unfold zs2 at hj
  rw [List.getElem?_set] at hj
  split at hj
  · next he => split at hj <;> cases hj
  · next he1 =>
    rw [List.getElem?_set] at hj
    split at hj
    · next he =>
      subst he
      split at hj
      · cases hj
        exact h'.2.2 (i, v) List.mem_cons_self
      · cases hj
    · next he =>
      have h2 := zok_at hk hj
      refine h'.2.2 (j, w) (List.mem_cons_of_mem _ (List.mem_filter.mpr ⟨zpairs_mem.mpr hj, ?_⟩))
      simp only [Bool.and_eq_true, Bool.not_eq_true', beq_eq_false_iff_ne, ne_eq, Bool.and_eq_false_imp, beq_iff_eq]
      exact ⟨fun q => he q.symm, fun q => he1 q.symm, fun q1 => fun q2 => h2 ⟨q1, q2⟩⟩
/-- fewer known locals -/
def zsub : zLs → zLs → Prop
  | [], [] => True
  | none :: L, _ :: L' => zsub L L'
  | some v :: L, some w :: L' => w = v ∧ zsub L L'
  | _, _ => False
theorem zsub.len : ∀ {L L' : zLs}, zsub L L' → L.length = L'.length
  | [], [], _ => rfl
  | none :: L, _ :: L', h => by rw [List.length_cons, List.length_cons, zsub.len (L := L) (L' := L') h]
  | some v :: L, some w :: L', h => by rw [List.length_cons, List.length_cons, zsub.len h.2]
  | [], _ :: _, h => h.elim
  | none :: _, [], h => h.elim
  | some _ :: _, [], h => h.elim
  | some _ :: _, none :: _, h => h.elim
theorem zsub.at : ∀ {L L' : zLs}, zsub L L' → ∀ (i : Nat) (v : Value), L[i]? = some (some v) → L'[i]? = some (some v)
  | [], [], _, i, v, h => by simp at h
  | none :: L, _ :: L', hs, i, v, h => by
    cases i with
    | zero => simp at h
    | succ i => exact zsub.at (L := L) (L' := L') hs i v h
  | some x :: L, some y :: L', hs, i, v, h => by
    cases i with
    | zero =>
      obtain ⟨e, -⟩ := hs
      subst e
      exact h
    | succ i => exact zsub.at hs.2 i v h
  | [], _ :: _, hs, _, _, _ => hs.elim
  | none :: _, [], hs, _, _, _ => hs.elim
  | some _ :: _, [], hs, _, _, _ => hs.elim
  | some _ :: _, none :: _, hs, _, _, _ => hs.elim
theorem zL.sub {nL : Nat} {L L' : zLs} {ls : Array Slot} (h : zL nL L' ls) (hs : zsub L L') : zL nL L ls := ⟨hs.len.trans h.1, h.2.1, h.2.2.1, fun i v hi => h.2.2.2 i v (hs.at i v hi)⟩
/-! the world's facts that a run doesn't change -/
def zNwB : Cond → Bool
  | .fieldLinkNest .. => true
  | .methodLinkNest .. => true
  | .declares _ => true
  | .castable .. => true
  | _ => false
theorem zNwB_tab {w : Cond} (h : zNwB w = true) : w.onTables = true := by cases w <;> first | rfl | cases h
theorem zNwB_warm {w : Cond} (h : zNwB w = true) {s U : State} (hW : s.WarmedH U.vm) (hz : va_Nw w s) : va_Nw w U := by
  cases w <;> first | exact va_Nw.warmF hW hz | exact va_Nw.warmM hW hz | exact va_Nw.warmD hW hz | exact va_Nw.warmC hW hz | cases h
def zAOs : List String := ["java/lang/Object", "TrackArray$Track", "TrackArray$Measure"]
def zFWs : List (String × MethodName × MethodName) := [
  ("java/util/ArrayList$Itr", ⟨"java/util/Iterator", "hasNext", "()Z"⟩, ⟨"java/util/ArrayList$Itr", "hasNext", "()Z"⟩),
  ("java/util/ArrayList$Itr", ⟨"java/util/Iterator", "next", "()Ljava/lang/Object;"⟩, ⟨"java/util/ArrayList$Itr", "next", "()Ljava/lang/Object;"⟩),
  ("TrackArray$Fixed", ⟨"TrackArray$Place", "x", "(I)I"⟩, ⟨"TrackArray$Fixed", "x", "(I)I"⟩),
  ("TrackArray$Riding", ⟨"TrackArray$Place", "x", "(I)I"⟩, ⟨"TrackArray$Riding", "x", "(I)I"⟩),
  ("TrackArray$Fixed", ⟨"TrackArray$Place", "y", "()I"⟩, ⟨"TrackArray$Fixed", "y", "()I"⟩),
  ("TrackArray$Riding", ⟨"TrackArray$Place", "y", "()I"⟩, ⟨"TrackArray$Riding", "y", "()I"⟩),
  ("TrackArray$Fixed", ⟨"TrackArray$Place", "height", "()I"⟩, ⟨"TrackArray$Fixed", "height", "()I"⟩),
  ("TrackArray$Riding", ⟨"TrackArray$Place", "height", "()I"⟩, ⟨"TrackArray$Riding", "height", "()I"⟩),
  ("TrackArray$Direction", ⟨"TrackArray$Focus", "beside", "(I)LTrackArray$Focus;"⟩, ⟨"TrackArray$Direction", "beside", "(I)LTrackArray$Focus;"⟩),
  ("TrackArray$Fixed", ⟨"TrackArray$Focus", "beside", "(I)LTrackArray$Focus;"⟩, ⟨"TrackArray$Fixed", "beside", "(I)LTrackArray$Focus;"⟩),
  ("TrackArray$Riding", ⟨"TrackArray$Focus", "beside", "(I)LTrackArray$Focus;"⟩, ⟨"TrackArray$Riding", "beside", "(I)LTrackArray$Focus;"⟩),
  ("java/util/ArrayList", ⟨"java/util/Collection", "toArray", "()[Ljava/lang/Object;"⟩, ⟨"java/util/ArrayList", "toArray", "()[Ljava/lang/Object;"⟩)]
def zNCs : List (String × String) := [("TrackArray$Fixed", "TrackArray$Direction"), ("TrackArray$Riding", "TrackArray$Direction"), ("TrackArray$Direction", "TrackArray$Place"),
  ("java/lang/IllegalArgumentException", "java/lang/IndexOutOfBoundsException"), ("java/lang/IllegalStateException", "java/lang/IndexOutOfBoundsException"), ("java/lang/IllegalStateException", "java/lang/IllegalArgumentException"),
  ("TrackArray$WrongNumber", "TrackArray$WrongToken"), ("TrackArray$TooMany", "TrackArray$WrongToken"), ("TrackArray$TooMany", "TrackArray$WrongNumber")]
/-- a site of lambdas as the VM has linked it: what the tables alone say -/
abbrev zLq : Type := MethodName × Nat × Nat × Lambda.Shape
def zLm (q : zLq) (cK : ClassId) (U : State) : Prop := ∃ (m : MethodId) (k : Class) (cf : ClassFile) (i0 p0 : Nat), U.methodNamed? q.1 = some m ∧ U.vm.classes[m.cls]? = some k ∧ k.cf = some cf ∧ Lambda.shapeOf? cf q.2.2.1 = some q.2.2.2 ∧
  (k.callSites.find? fun y => y.1 == m.idx && y.2.1 == q.2.1) = some (i0, p0, .makes cK) ∧ Lambda.isMade { classPath := fun _ => none } U.vm m.cls q.2.2.2 cK = true ∧ U.lambdaCallable q.2.2.2 cK = true
theorem zLm.warm {q : zLq} {cK : ClassId} {s U : State} (hW : s.WarmedH U.vm) (h : zLm q cK s) : zLm q cK U := by
  obtain ⟨m, k, cf, i0, p0, h1, h2, h3, h4, h5, h6, h7⟩ := h
  have hA := hW.alike
  obtain ⟨k', hk', he⟩ := hA.2.2 _ _ h2
  have hm' : U.methodNamed? q.1 = some m := by
    have := State.methodNamed?_setVm (s := s) hA q.1
    rw [h1] at this
    exact this
  have h7' : U.lambdaCallable q.2.2.2 cK = true := by
    simp only [State.lambdaCallable, hA.findClass, hA.assignable, hA.superclasses, hA.declaredIn] at h7 ⊢
    exact h7
  exact ⟨m, k', cf, i0, p0, hm', hk', by rw [he]; exact h3, h4, by rw [he]; exact h5, Lambda.isMade_warmer hW h6, h7'⟩
theorem zLm.of {q : zLq} {cK : ClassId} {s : State} (h : s.lambdaAt? q.1 q.2.1 q.2.2.1 q.2.2.2 = some (cK, none)) : zLm q cK s := by
  obtain ⟨m, k, cf, i0, p0, l, h1, h2, h3, h4, -, h6, h7, h8, h9⟩ := State.lambdaAt?_spec h
  rcases h9 with ⟨a, cell, -, h, -⟩ | ⟨h, -⟩
  · cases h
  · subst h
    exact ⟨m, k, cf, i0, p0, h1, h2, h3, h4, h6, h7, h8⟩
def zsamI : MethodDescriptor := { parameters := [.int], returnType := some .long }
def zLMs : List zLq := [
  (⟨"TrackArray$Track", "beam", "(LTrackArray$Focus;I)LTrackArray$Signal;"⟩, 100, 213, { iface := "TrackArray$Signal", name := "at", sam := zsamI, captured := [.object "TrackArray$Track"], kind := 5, implClass := "TrackArray$Track", implName := "lambda$beam$0", implDesc := { parameters := [.int], returnType := some .long }, implItf := false, inst := zsamI }),
  (⟨"TrackArray$Track", "record", "(I)LTrackArray$Signal;"⟩, 13, 216, { iface := "TrackArray$Signal", name := "at", sam := zsamI, captured := [.object "TrackArray$Microphone"], kind := 6, implClass := "TrackArray$Track", implName := "lambda$record$1", implDesc := { parameters := [.object "TrackArray$Microphone", .int], returnType := some .long }, implItf := false, inst := zsamI }),
  (⟨"TrackArray", "bestLag", "(III)I"⟩, 31, 268, { iface := "TrackArray$Worth", name := "of", sam := zsamI, captured := [.object "TrackArray$Microphone", .object "TrackArray$Microphone"], kind := 6, implClass := "TrackArray", implName := "lambda$bestLag$0", implDesc := { parameters := [.object "TrackArray$Microphone", .object "TrackArray$Microphone", .int], returnType := some .long }, implItf := false, inst := zsamI }),
  (⟨"TrackArray", "scan", "(IIII)I"⟩, 41, 336, { iface := "TrackArray$Worth", name := "of", sam := zsamI, captured := [.object "TrackArray", .int, .int, .int], kind := 5, implClass := "TrackArray", implName := "lambda$scan$1", implDesc := { parameters := [.int, .int, .int, .int], returnType := some .long }, implItf := false, inst := zsamI })]
/-! constants: Strings (10), the enum's constants (5), statics -/
def zSR : List (String × Nat × String × Nat) := [("TrackArray$Parser", 22, "", 0), ("TrackArray$Parser", 118, "mic", 1), ("TrackArray$Parser", 120, "vehicle", 2), ("TrackArray$Parser", 122, "source", 3), ("TrackArray$Parser", 124, "sound", 4), ("TrackArray$Parser", 126, "ground", 5), ("TrackArray$Parser", 128, "noise", 6), ("TrackArray$Parser", 130, "spreading", 7), ("TrackArray$Parser", 101, "-", 8), ("TrackArray$Parser", 112, ";", 9),
  ("TrackArrayModel", 336, "mic", 1), ("TrackArrayModel", 345, "vehicle", 2), ("TrackArrayModel", 349, "source", 3), ("TrackArrayModel", 353, "sound", 4), ("TrackArrayModel", 355, "ground", 5), ("TrackArrayModel", 357, "noise", 6), ("TrackArrayModel", 359, "spreading", 7)]
def zSbyt : List (List Int32) := [[], [109, 105, 99], [118, 101, 104, 105, 99, 108, 101], [115, 111, 117, 114, 99, 101], [115, 111, 117, 110, 100], [103, 114, 111, 117, 110, 100], [110, 111, 105, 115, 101], [115, 112, 114, 101, 97, 100, 105, 110, 103], [45], [59]]
def zSlen : List Nat := [0, 3, 7, 6, 5, 6, 5, 9, 1, 1]
def zShash : List Int32 := [0, 108103, 342069036, -896505829, 109627663, -1237460601, 104998682, 1302809999, 45, 59]
def zSv (D : zG) : Nat → Value
  | 0 => .int 1
  | k => if D.2.2.2 (100 + k) = 0 then .null else .ref (D.2.2.2 k)
def zST : List (String × String × String × Nat) := [("java/lang/String", "COMPACT_STRINGS", "Z", 0), ("java/lang/Throwable", "UNASSIGNED_STACK", "[Ljava/lang/StackTraceElement;", 53), ("java/lang/Throwable", "SUPPRESSED_SENTINEL", "Ljava/util/List;", 54), ("jdk/internal/util/Preconditions", "SIOOBE_FORMATTER", "Ljava/util/function/BiFunction;", 55)]
def zSR2 : List (String × String × String × Nat) := [("TrackArray$Measure", "ENERGY", "LTrackArray$Measure;", 40), ("TrackArray$Measure", "PEAK", "LTrackArray$Measure;", 41), ("TrackArray$Measure", "$VALUES", "[LTrackArray$Measure;", 50), ("java/util/ArrayList", "EMPTY_ELEMENTDATA", "[Ljava/lang/Object;", 51), ("java/util/ArrayList", "DEFAULTCAPACITY_EMPTY_ELEMENTDATA", "[Ljava/lang/Object;", 52)]
def zMes : List String := ["TrackArray$Measure$1", "TrackArray$Measure$2", "TrackArray$Measure$3", "TrackArray$Measure$4", "TrackArray$Measure$5"]
/-- the enum's own array, exactly -/
def zVals (D : zG) (B : Nat) (H : Heap) : Prop := ∃ cell : Cell, H[D.2.2.2 50]? = some cell ∧ cell.cls = D.2.2.1 7 ∧ cell.slots = (arrV (D.2.2.1 7) 5 (fun j => .ref (D.2.2.2 (40 + j)))).slots ∧ cell.vm ≠ .unknown ∧ (∀ k, cell.vm ≠ .statics k) ∧ ¬ zA B (D.2.2.2 50)
def zKst (D : zG) (B : Nat) (U : State) (H : Heap) : Prop :=
  (∀ q ∈ zSR, vk_R q.1 q.2.1 q.2.2.1 (D.2.2.2 q.2.2.2) U) ∧
  vk_S 10 zSlen zSbyt (fun i => D.2.2.2 i) (fun i => D.2.2.2 (20 + i)) (zA B) U H ∧
  va_Ef 10 "java/lang/String" "hash" "I" (fun i => .int (zShash.getD i 0)) D.2.2.2 (zA B) U H ∧
  va_Ef 10 "java/lang/String" "hashIsZero" "Z" (fun i => .int (if i = 0 then 1 else 0)) D.2.2.2 (zA B) U H ∧
  (∀ q ∈ zST, va_Z q.1 q.2.1 q.2.2.1 (zSv D q.2.2.2) (zA B) U H) ∧
  (∀ q ∈ zSR2, va_Z q.1 q.2.1 q.2.2.1 (.ref (D.2.2.2 q.2.2.2)) (zA B) U H) ∧
  (∀ i, i < 5 → va_O (zMes.getD i "") (D.2.2.2 (40 + i)) (zA B) U H) ∧
  (va_T (.object "TrackArray$Measure") (D.2.2.2 50) 5 (fun j => .ref (D.2.2.2 (40 + j))) (zA B) U H) ∧
  va_Mi "[Ljava/lang/Object;" (D.2.2.2 60) U ∧ va_O "java/lang/System$2" (D.2.2.2 61) (zA B) U H ∧
  vx_L "java/lang/Throwable" "UNASSIGNED_STACK" "[Ljava/lang/StackTraceElement;" (zA B) U H ∧ vx_L "java/lang/Throwable" "SUPPRESSED_SENTINEL" "Ljava/util/List;" (zA B) U H ∧ zVals D B H
theorem zKst.moved {D : zG} {B : Nat} {u U : State} {H : Heap} (hW : u.WarmedH U.vm) (h : zKst D B u H) : zKst D B U H := by
  obtain ⟨h1, h2, h3, h4, h5, h6, h7, h8, h9, h10, h11, h12, h13⟩ := h
  have hA := hW.alike
  exact ⟨fun q hq => (h1 q hq).warm hW, h2.moved hA, va_Ef.moved hA h3, va_Ef.moved hA h4, fun q hq => (h5 q hq).moved hA, fun q hq => (h6 q hq).moved hA, fun i hi => (h7 i hi).moved hA, h8.moved hA, h9.moved hA, h10.moved hA, h11.moved hA, h12.moved hA, h13⟩
theorem zKst.kept {D : zG} {B : Nat} {U : State} {H H1 : Heap} (h : zKst D B U H) (hq : ∀ a : Nat, a < H.size → ¬ zA B a → H1[a]? = H[a]?) : zKst D B U H1 := by
  obtain ⟨h1, h2, h3, h4, h5, h6, h7, h8, h9, h10, h11, h12, ⟨cell, c1, c2, c3, c4, c5, c6⟩⟩ := h
  exact ⟨h1, h2.kept hq, va_Ef.kept h3 hq, va_Ef.kept h4 hq, fun q hz => (h5 q hz).kept hq, fun q hz => (h6 q hz).kept hq, fun i hi => (h7 i hi).kept hq, h8.kept hq, h9, h10.kept hq, h11.kept hq, h12.kept hq, ⟨cell, by rw [hq _ (Array.getElem?_eq_some_iff.mp c1).1 c6]; exact c1, c2, c3, c4, c5, c6⟩⟩
/-- all that a run leans on and doesn't change -/
def Wd (D : zG) (B : Nat) (U : State) : Prop :=
  va_K (D.1, D.2.1) zCL (zTYS D) U ∧ (∀ w, w ∈ lw_tbl → zNwB w = true → va_Nw w U) ∧ (∀ C ∈ zAOs, va_AO C U) ∧ (∀ q ∈ zFWs, va_Fw q.1 q.2.1 q.2.2 U) ∧ (∀ q ∈ zNCs, va_Nc q.1 q.2 U) ∧
  (∀ i q, zLMs[i]? = some q → zLm q (D.1 (100 + i)) U) ∧ zKst D B U U.heap
theorem zFWs_ok : ∀ q ∈ zFWs, q.2.1.cls ≠ "java/lang/invoke/MethodHandle" ∧ q.2.1.cls ≠ "java/lang/invoke/VarHandle" := by decide
theorem Wd.call {D : zG} {B : Nat} {s U : State} (h : Wd D B s) (hW : s.WarmedH U.vm) (hq : ∀ a : Nat, a < s.heap.size → ¬ zA B a → U.heap[a]? = s.heap[a]?) : Wd D B U := by
  obtain ⟨h1, h2, h3, h4, h5, h6, h7⟩ := h
  have hA := hW.alike
  exact ⟨h1.moved hA, fun w hw hb => zNwB_warm hb hW (h2 w hw hb), fun C hC => (h3 C hC).moved hA, fun q hz => (h4 q hz).moved (zFWs_ok q hz) hA, fun q hz => (h5 q hz).moved hA, fun i q hi => (h6 i q hi).warm hW, (h7.moved hW).kept hq⟩
theorem Wd.same {D : zG} {B : Nat} {s U : State} (h : Wd D B s) (hv : U.vm = s.vm) (hh : U.heap = s.heap) : Wd D B U := h.call (by rw [hv]; exact State.WarmedH.refl s) (fun a _ _ => by rw [hh])
